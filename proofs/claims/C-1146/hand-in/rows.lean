section
/-! pure rows to paste: stores, nI and lN arithmetic, masks, shifts, narrowing, branches by naturals (pk_le, pk_lt, pk_eq), loops (lp1 .. lp16: the measure of the state; rp1 ..: recursion), negatives. Take what you need -/
theorem pk_us {f : Nat → Int32} {k : Nat} {x : Int32} : upd f k x k = x := if_pos rfl
theorem pk_un {f : Nat → Int32} {k j : Nat} {x : Int32} (h : j ≠ k) : upd f k x j = f j := if_neg h
theorem pk_uLs {f : Nat → Int64} {k : Nat} {x : Int64} : vp_updL f k x k = x := if_pos rfl
theorem pk_uLn {f : Nat → Int64} {k j : Nat} {x : Int64} (h : j ≠ k) : vp_updL f k x j = f j := if_neg h
theorem pk_sub {a b : Nat} (h : b ≤ a) : nI a - nI b = nI (a - b) := by
  obtain ⟨c, rfl⟩ : ∃ c, a = c + b := ⟨a - b, by omega⟩
  rw [← nI_add, Int32.add_sub_cancel, Nat.add_sub_cancel]
theorem pk_m1 (n : Nat) : nI (n + 1) + (-1) = nI n := by
  rw [← nI_1, Int32.add_assoc, show (1 : Int32) + (-1) = 0 from rfl, Int32.add_zero]
theorem pk_mul (a b : Nat) : nI a * nI b = nI (a * b) := (Int32.ofNat_mul a b).symm
theorem pk_div {a d : Nat} (ha : a < 2 ^ 31) (h0 : 0 < d) (hd : d < 2 ^ 31) : nI a / nI d = nI (a / d) := by
  apply Int32.toInt_inj.mp
  rw [lg_idiv_nonneg (by rw [nI_toInt ha]; omega) (by rw [nI_toInt hd]; omega), nI_toInt ha, nI_toInt hd, nI_toInt (Nat.lt_of_le_of_lt (Nat.div_le_self a d) ha)]
  first | rfl | exact (Int.natCast_ediv _ _).symm
theorem pk_rem {a d : Nat} (ha : a < 2 ^ 31) (h0 : 0 < d) (hd : d < 2 ^ 31) : nI a - nI a / nI d * nI d = nI (a % d) := by
  rw [pk_div ha h0 hd, pk_mul, pk_sub (Nat.div_mul_le_self a d)]
  exact congrArg nI (by have := Nat.div_add_mod' a d; omega)
theorem pk_sub_toInt {a b : Nat} (ha : a < 2 ^ 30) (hb : b < 2 ^ 30) : (nI a - nI b).toInt = (a : Int) - b := by
  rw [Int32.toInt_sub, nI_toInt (by omega), nI_toInt (by omega)]
  exact Int.bmod_eq_of_le (by omega) (by omega)
theorem pk_sneg {a b : Nat} (hb : b < 2 ^ 30) (h : a < b) : nI a - nI b < 0 := by
  rw [Int32.lt_iff_toInt_lt, pk_sub_toInt (by omega) hb, show (0 : Int32).toInt = 0 from by decide]
  omega
theorem pk_ix (x : Int32) {n : Nat} (hn : n < 2 ^ 31) : x < 0 ∨ nI n ≤ x ∨ ∃ j : Nat, j < n ∧ x = nI j := by
  by_cases h : x < 0
  · exact Or.inl h
  · obtain ⟨j, hj, rfl⟩ := nI_of h
    by_cases h2 : j < n
    · exact Or.inr (Or.inr ⟨j, h2, rfl⟩)
    · exact Or.inr (Or.inl (nI_le (by omega) hj))
theorem pk_le {x y : Int32} {A B : Prop} (a b : Nat) (f : a ≤ b → A) (g : b < a → B) (hx : x = nI a := by rfl) (hy : y = nI b := by rfl) (ha : a < 2 ^ 31 := by omega) (hb : b < 2 ^ 31 := by omega) : (x ≤ y → A) ∧ (¬ x ≤ y → B) := by
  subst hx hy
  rw [nI_leI ha hb]
  exact ⟨f, fun z => g (by omega)⟩
theorem pk_lt {x y : Int32} {A B : Prop} (a b : Nat) (f : a < b → A) (g : b ≤ a → B) (hx : x = nI a := by rfl) (hy : y = nI b := by rfl) (ha : a < 2 ^ 31 := by omega) (hb : b < 2 ^ 31 := by omega) : (x < y → A) ∧ (¬ x < y → B) := by
  subst hx hy
  rw [nI_ltI ha hb]
  exact ⟨f, fun z => g (by omega)⟩
theorem pk_eq {x y : Int32} {A B : Prop} (a b : Nat) (f : a = b → A) (g : a ≠ b → B) (hx : x = nI a := by rfl) (hy : y = nI b := by rfl) (ha : a < 2 ^ 31 := by omega) (hb : b < 2 ^ 31 := by omega) : (x = y → A) ∧ (¬ x = y → B) := by
  subst hx hy
  rw [nI_eq ha hb]
  exact ⟨f, g⟩
theorem pk_in {x : Int32} (n N : Nat) (h : n < N) (hx : x = nI n := by rfl) (hN : N < 2 ^ 31 := by omega) : vp_in x N := by
  subst hx
  exact vp_in_nI h hN
theorem pk_cl {x : Int32} (n : Nat) (hx : x = nI n := by rfl) (h : n < 2 ^ 31 := by omega) : x.toNatClampNeg = n := by
  subst hx
  exact nI_clamp h
theorem pk_tn {n : Nat} (h : n < 2 ^ 32) : (nI n).toBitVec.toNat = n := Nat.mod_eq_of_lt h
theorem pk_and (x : Int32) {m : Int32} (k : Nat) (hm : m.toBitVec.toNat = 2 ^ k - 1) : x &&& m = nI (x.toBitVec.toNat % 2 ^ k) := by
  apply Int32.toBitVec_inj.mp
  apply BitVec.eq_of_toNat_eq
  rw [Int32.toBitVec_and, BitVec.toNat_and, hm, Nat.and_two_pow_sub_one_eq_mod]
  show _ = (BitVec.ofNat 32 _).toNat
  rw [BitVec.toNat_ofNat]
  exact (Nat.mod_eq_of_lt (Nat.lt_of_le_of_lt (Nat.mod_le _ _) x.toBitVec.isLt)).symm
theorem pk_andN {n : Nat} (h : n < 2 ^ 32) {m : Int32} (k : Nat) (hm : m.toBitVec.toNat = 2 ^ k - 1) : nI n &&& m = nI (n % 2 ^ k) := by
  rw [pk_and _ k hm, pk_tn h]
theorem pk_andE (x : Int32) {m : Int32} (k : Nat) (hm : m.toBitVec.toNat = 2 ^ k - 1) : ∃ j : Nat, j < 2 ^ k ∧ x &&& m = nI j := ⟨_, Nat.mod_lt _ (Nat.two_pow_pos k), pk_and x k hm⟩
theorem pk_andIn (x : Int32) {m : Int32} (k : Nat) (hm : m.toBitVec.toNat = 2 ^ k - 1) (hk : k ≤ 30) : vp_in (x &&& m) (2 ^ k) := by
  obtain ⟨j, hj, e⟩ := pk_andE x k hm
  rw [e]
  exact vp_in_nI hj (Nat.lt_of_le_of_lt (Nat.pow_le_pow_right (by decide) hk) (by decide))
theorem pk_shl (a s : Int32) (k : Nat) (hs : (s.toBitVec.smod 32).toNat = k) : (a <<< s).toBitVec.toNat = a.toBitVec.toNat * 2 ^ k % 2 ^ 32 := by
  show (a.toBitVec <<< (s.toBitVec.smod 32).toNat).toNat = _
  rw [hs, BitVec.toNat_shiftLeft, Nat.shiftLeft_eq]
theorem pk_shlN {n : Nat} (s : Int32) (k : Nat) (hs : (s.toBitVec.smod 32).toNat = k) (h : n * 2 ^ k < 2 ^ 32) : nI n <<< s = nI (n * 2 ^ k) := by
  apply Int32.toBitVec_inj.mp
  apply BitVec.eq_of_toNat_eq
  have hn : n < 2 ^ 32 := Nat.lt_of_le_of_lt (Nat.le_mul_of_pos_right n (Nat.two_pow_pos k)) h
  rw [pk_shl _ _ k hs, pk_tn hn, pk_tn h, Nat.mod_eq_of_lt h]
theorem pk_shr (a s : Int32) (k : Nat) (hs : (s.toBitVec.smod 32).toNat = k) : (a >>> s).toInt = a.toInt >>> k := by
  show (a.toBitVec.sshiftRight (s.toBitVec.smod 32).toNat).toInt = _
  rw [hs, BitVec.toInt_sshiftRight]
  rfl
theorem pk_shrN {n : Nat} (h : n < 2 ^ 31) (s : Int32) (k : Nat) (hs : (s.toBitVec.smod 32).toNat = k) : nI n >>> s = nI (n / 2 ^ k) := by
  apply Int32.toInt_inj.mp
  have h2 : n / 2 ^ k ≤ n := Nat.div_le_self _ _
  rw [pk_shr _ _ k hs, nI_toInt h, nI_toInt (by omega), Int.shiftRight_eq_div_pow]
  rfl
theorem pk_ushr (x s : Int32) (k : Nat) (hs : ((s.toUInt32 &&& Int32.toUInt32 31).toBitVec % 32).toNat = k) : (x.toUInt32 >>> (s.toUInt32 &&& Int32.toUInt32 31)).toInt32.toBitVec.toNat = x.toBitVec.toNat / 2 ^ k := by
  have e : (x.toUInt32 >>> (s.toUInt32 &&& Int32.toUInt32 31)).toInt32.toBitVec = x.toBitVec >>> k := by
    rw [← hs]
    exact UInt32.toBitVec_shiftRight _ _
  rw [e, BitVec.toNat_ushiftRight, Nat.shiftRight_eq_div_pow]
theorem pk_ushrN {n : Nat} (hn : n < 2 ^ 32) (s : Int32) (k : Nat) (hs : ((s.toUInt32 &&& Int32.toUInt32 31).toBitVec % 32).toNat = k) : ((nI n).toUInt32 >>> (s.toUInt32 &&& Int32.toUInt32 31)).toInt32 = nI (n / 2 ^ k) := by
  apply Int32.toBitVec_inj.mp
  apply BitVec.eq_of_toNat_eq
  rw [pk_ushr _ s k hs, pk_tn hn, pk_tn (Nat.lt_of_le_of_lt (Nat.div_le_self _ _) hn)]
theorem pk_nb (z : Int32) : narrow .byte (.int z.toInt8.toInt32) = .int z.toInt8.toInt32 := congrArg Value.int (by simp)
theorem pk_ns (z : Int32) : narrow .short (.int z.toInt16.toInt32) = .int z.toInt16.toInt32 := congrArg Value.int (by simp)
theorem pk_fb (r : Int32) : fits .byte (.int r.toInt8.toInt32) = true := by
  have ⟨a, b⟩ := lg_i2b_range r
  have h1 : (-128 : Int32).toInt = -128 := by decide
  have h2 : (127 : Int32).toInt = 127 := by decide
  simp only [fits, Bool.and_eq_true, decide_eq_true_eq, Int32.le_iff_toInt_le, h1, h2]
  omega
theorem pk_fs (r : Int32) : fits .short (.int r.toInt16.toInt32) = true := by
  have ⟨a, b⟩ := lg_i2s_range r
  have h1 : (-32768 : Int32).toInt = -32768 := by decide
  have h2 : (32767 : Int32).toInt = 32767 := by decide
  simp only [fits, Bool.and_eq_true, decide_eq_true_eq, Int32.le_iff_toInt_le, h1, h2]
  omega
theorem pk_charN {q : Nat} (hq : q < 65536) : narrow .char (.int (nI q)) = .int (nI q) ∧ fits .char (.int (nI q)) = true := by
  constructor
  · have e : (nI q).toUInt32.toUInt16.toUInt32.toInt32 = nI q := by
      apply Int32.toBitVec_inj.mp
      apply BitVec.eq_of_toNat_eq
      show (nI q).toUInt32.toUInt16.toUInt32.toNat = q % 2 ^ 32
      rw [UInt16.toNat_toUInt32, UInt32.toNat_toUInt16, show (nI q).toUInt32.toNat = q % 2 ^ 32 from rfl]
      omega
    exact congrArg Value.int e
  · have a : (0 : Int32) ≤ nI q := nI_pos' (by omega)
    have b : nI q ≤ 65535 := nI_le (b := 65535) (by omega) (by decide)
    show (decide ((0 : Int32) ≤ nI q) && decide (nI q ≤ 65535)) = true
    rw [decide_eq_true a, decide_eq_true b]
    rfl
theorem pk_char (x : Int32) : (x.toUInt32 % 65536).toInt32 = nI (x.toBitVec.toNat % 65536) := by
  apply Int32.toBitVec_inj.mp
  apply BitVec.eq_of_toNat_eq
  rw [pk_tn (by omega)]
  show (x.toUInt32 % 65536).toNat = _
  rw [UInt32.toNat_mod]
  rfl
theorem pk_nc (x : Int32) : narrow .char (.int (x.toUInt32 % 65536).toInt32) = .int (x.toUInt32 % 65536).toInt32 := by
  rw [pk_char]
  exact (pk_charN (Nat.mod_lt _ (by decide))).1
theorem pk_fc (x : Int32) : fits .char (.int (x.toUInt32 % 65536).toInt32) = true := by
  rw [pk_char]
  exact (pk_charN (Nat.mod_lt _ (by decide))).2
theorem pk_vb (z : Int32) : vp_nar .byte z.toInt8.toInt32 = z.toInt8.toInt32 := by rw [vp_nar_byte]; simp
theorem pk_vs (z : Int32) : vp_nar .short z.toInt16.toInt32 = z.toInt16.toInt32 := by rw [vp_nar_short]; simp
theorem pk_vc (z : Int32) : vp_nar .char (z.toUInt32 % 65536).toInt32 = (z.toUInt32 % 65536).toInt32 := Value.int.inj (pk_nc z)
theorem pk_lT {n : Nat} (h : n < 2 ^ 63) : (lN n).toInt = (n : Int) := lg_ofNat_toInt h
theorem pk_lLT {a b : Nat} (ha : a < 2 ^ 63) (hb : b < 2 ^ 63) : lN a < lN b ↔ a < b := by
  rw [Int64.lt_iff_toInt_lt, pk_lT ha, pk_lT hb]; omega
theorem pk_lLE {a b : Nat} (ha : a < 2 ^ 63) (hb : b < 2 ^ 63) : lN a ≤ lN b ↔ a ≤ b := by
  rw [Int64.le_iff_toInt_le, pk_lT ha, pk_lT hb]; omega
theorem pk_lEQ {a b : Nat} (ha : a < 2 ^ 63) (hb : b < 2 ^ 63) : lN a = lN b ↔ a = b := by
  rw [← Int64.toInt_inj, pk_lT ha, pk_lT hb]; omega
theorem pk_lOf {x : Int64} (h : ¬ x < 0) : ∃ k : Nat, k < 2 ^ 63 ∧ x = lN k := by
  rw [Int64.lt_iff_toInt_lt] at h
  have h0 : (0 : Int64).toInt = 0 := by decide
  have hx := Int64.toInt_lt x
  refine ⟨x.toInt.toNat, by omega, Int64.toInt_inj.mp ?_⟩
  rw [pk_lT (by omega)]
  omega
theorem pk_lDiv {a b : Nat} (ha : a < 2 ^ 63) (h0 : 0 < b) (hb : b < 2 ^ 63) : lN a / lN b = lN (a / b) := by
  apply Int64.toInt_inj.mp
  rw [lg_ldiv_nonneg (by rw [pk_lT ha]; omega) (by rw [pk_lT hb]; omega), pk_lT ha, pk_lT hb, pk_lT (Nat.lt_of_le_of_lt (Nat.div_le_self a b) ha)]
  rfl
theorem pk_lRem {a b : Nat} (ha : a < 2 ^ 63) (h0 : 0 < b) (hb : b < 2 ^ 63) : lN a - lN a / lN b * lN b = lN (a % b) := by
  rw [pk_lDiv ha h0 hb, lN_mul, lN_sub (Nat.div_mul_le_self a b)]
  exact congrArg lN (by have := Nat.div_add_mod' a b; omega)
theorem pk_loop {σ : Type} (W : Nat → Nat → σ → Prop) (I : Nat → σ → Prop) (e i0 : Nat) (s : σ) (hi : i0 ≤ e) (h0 : I i0 s) (hx : ∀ n s, I e s → W (n + 1) e s)
    (hs : ∀ n i s, i < e → I i s → (∀ s', I (i + 1) s' → W n (i + 1) s') → W (n + 1) i s) : ∃ n, W n i0 s :=
  ⟨e + 1, loop_i W I e hx hs (e + 1) i0 s hi (by omega) h0⟩
theorem pk_loopD {σ : Type} (W : Nat → Nat → σ → Prop) (I : Nat → σ → Prop) (hx : ∀ n s, I 0 s → W (n + 1) 0 s)
    (hs : ∀ n i s, I (i + 1) s → (∀ s', I i s' → W n i s') → W (n + 1) (i + 1) s) : ∀ (e : Nat) (s : σ), I e s → W (e + 1) e s := by
  intro e
  induction e with
  | zero => exact fun s h => hx 0 s h
  | succ e ih => exact fun s h => hs (e + 1) e s h (fun s' h' => ih s' h')
theorem lp1 {A1 : Type} (W : Nat → A1 → Prop) (I : A1 → Prop) (μ : A1 → Nat) (hs : ∀ (n : Nat) (a1 : A1), I a1 → (∀ (b1 : A1), I b1 → μ b1 < μ a1 → W n b1) → W (n + 1) a1) (a1 : A1) (h : I a1) : ∃ n, W n a1 :=
  loop_m (σ := A1) (fun n s => W n s) (fun s => I s) (fun s => μ s) (fun n s hI hk => hs n s hI (fun b1 h9 hm => hk b1 h9 hm)) a1 h
theorem lp2 {A1 A2 : Type} (W : Nat → A1 → A2 → Prop) (I : A1 → A2 → Prop) (μ : A1 → A2 → Nat) (hs : ∀ (n : Nat) (a1 : A1) (a2 : A2), I a1 a2 → (∀ (b1 : A1) (b2 : A2), I b1 b2 → μ b1 b2 < μ a1 a2 → W n b1 b2) → W (n + 1) a1 a2) (a1 : A1) (a2 : A2) (h : I a1 a2) : ∃ n, W n a1 a2 :=
  loop_m (σ := A1 × A2) (fun n s => W n s.1 s.2) (fun s => I s.1 s.2) (fun s => μ s.1 s.2) (fun n s hI hk => hs n s.1 s.2 hI (fun b1 b2 h9 hm => hk (b1, b2) h9 hm)) (a1, a2) h
theorem lp3 {A1 A2 A3 : Type} (W : Nat → A1 → A2 → A3 → Prop) (I : A1 → A2 → A3 → Prop) (μ : A1 → A2 → A3 → Nat) (hs : ∀ (n : Nat) (a1 : A1) (a2 : A2) (a3 : A3), I a1 a2 a3 → (∀ (b1 : A1) (b2 : A2) (b3 : A3), I b1 b2 b3 → μ b1 b2 b3 < μ a1 a2 a3 → W n b1 b2 b3) → W (n + 1) a1 a2 a3) (a1 : A1) (a2 : A2) (a3 : A3) (h : I a1 a2 a3) : ∃ n, W n a1 a2 a3 :=
  loop_m (σ := A1 × A2 × A3) (fun n s => W n s.1 s.2.1 s.2.2) (fun s => I s.1 s.2.1 s.2.2) (fun s => μ s.1 s.2.1 s.2.2) (fun n s hI hk => hs n s.1 s.2.1 s.2.2 hI (fun b1 b2 b3 h9 hm => hk (b1, b2, b3) h9 hm)) (a1, a2, a3) h
theorem lp4 {A1 A2 A3 A4 : Type} (W : Nat → A1 → A2 → A3 → A4 → Prop) (I : A1 → A2 → A3 → A4 → Prop) (μ : A1 → A2 → A3 → A4 → Nat) (hs : ∀ (n : Nat) (a1 : A1) (a2 : A2) (a3 : A3) (a4 : A4), I a1 a2 a3 a4 → (∀ (b1 : A1) (b2 : A2) (b3 : A3) (b4 : A4), I b1 b2 b3 b4 → μ b1 b2 b3 b4 < μ a1 a2 a3 a4 → W n b1 b2 b3 b4) → W (n + 1) a1 a2 a3 a4) (a1 : A1) (a2 : A2) (a3 : A3) (a4 : A4) (h : I a1 a2 a3 a4) : ∃ n, W n a1 a2 a3 a4 :=
  loop_m (σ := A1 × A2 × A3 × A4) (fun n s => W n s.1 s.2.1 s.2.2.1 s.2.2.2) (fun s => I s.1 s.2.1 s.2.2.1 s.2.2.2) (fun s => μ s.1 s.2.1 s.2.2.1 s.2.2.2) (fun n s hI hk => hs n s.1 s.2.1 s.2.2.1 s.2.2.2 hI (fun b1 b2 b3 b4 h9 hm => hk (b1, b2, b3, b4) h9 hm)) (a1, a2, a3, a4) h
theorem lp5 {A1 A2 A3 A4 A5 : Type} (W : Nat → A1 → A2 → A3 → A4 → A5 → Prop) (I : A1 → A2 → A3 → A4 → A5 → Prop) (μ : A1 → A2 → A3 → A4 → A5 → Nat) (hs : ∀ (n : Nat) (a1 : A1) (a2 : A2) (a3 : A3) (a4 : A4) (a5 : A5), I a1 a2 a3 a4 a5 → (∀ (b1 : A1) (b2 : A2) (b3 : A3) (b4 : A4) (b5 : A5), I b1 b2 b3 b4 b5 → μ b1 b2 b3 b4 b5 < μ a1 a2 a3 a4 a5 → W n b1 b2 b3 b4 b5) → W (n + 1) a1 a2 a3 a4 a5) (a1 : A1) (a2 : A2) (a3 : A3) (a4 : A4) (a5 : A5) (h : I a1 a2 a3 a4 a5) : ∃ n, W n a1 a2 a3 a4 a5 :=
  loop_m (σ := A1 × A2 × A3 × A4 × A5) (fun n s => W n s.1 s.2.1 s.2.2.1 s.2.2.2.1 s.2.2.2.2) (fun s => I s.1 s.2.1 s.2.2.1 s.2.2.2.1 s.2.2.2.2) (fun s => μ s.1 s.2.1 s.2.2.1 s.2.2.2.1 s.2.2.2.2) (fun n s hI hk => hs n s.1 s.2.1 s.2.2.1 s.2.2.2.1 s.2.2.2.2 hI (fun b1 b2 b3 b4 b5 h9 hm => hk (b1, b2, b3, b4, b5) h9 hm)) (a1, a2, a3, a4, a5) h
theorem lp6 {A1 A2 A3 A4 A5 A6 : Type} (W : Nat → A1 → A2 → A3 → A4 → A5 → A6 → Prop) (I : A1 → A2 → A3 → A4 → A5 → A6 → Prop) (μ : A1 → A2 → A3 → A4 → A5 → A6 → Nat) (hs : ∀ (n : Nat) (a1 : A1) (a2 : A2) (a3 : A3) (a4 : A4) (a5 : A5) (a6 : A6), I a1 a2 a3 a4 a5 a6 → (∀ (b1 : A1) (b2 : A2) (b3 : A3) (b4 : A4) (b5 : A5) (b6 : A6), I b1 b2 b3 b4 b5 b6 → μ b1 b2 b3 b4 b5 b6 < μ a1 a2 a3 a4 a5 a6 → W n b1 b2 b3 b4 b5 b6) → W (n + 1) a1 a2 a3 a4 a5 a6) (a1 : A1) (a2 : A2) (a3 : A3) (a4 : A4) (a5 : A5) (a6 : A6) (h : I a1 a2 a3 a4 a5 a6) : ∃ n, W n a1 a2 a3 a4 a5 a6 :=
  loop_m (σ := A1 × A2 × A3 × A4 × A5 × A6) (fun n s => W n s.1 s.2.1 s.2.2.1 s.2.2.2.1 s.2.2.2.2.1 s.2.2.2.2.2) (fun s => I s.1 s.2.1 s.2.2.1 s.2.2.2.1 s.2.2.2.2.1 s.2.2.2.2.2) (fun s => μ s.1 s.2.1 s.2.2.1 s.2.2.2.1 s.2.2.2.2.1 s.2.2.2.2.2) (fun n s hI hk => hs n s.1 s.2.1 s.2.2.1 s.2.2.2.1 s.2.2.2.2.1 s.2.2.2.2.2 hI (fun b1 b2 b3 b4 b5 b6 h9 hm => hk (b1, b2, b3, b4, b5, b6) h9 hm)) (a1, a2, a3, a4, a5, a6) h
theorem lp7 {A1 A2 A3 A4 A5 A6 A7 : Type} (W : Nat → A1 → A2 → A3 → A4 → A5 → A6 → A7 → Prop) (I : A1 → A2 → A3 → A4 → A5 → A6 → A7 → Prop) (μ : A1 → A2 → A3 → A4 → A5 → A6 → A7 → Nat) (hs : ∀ (n : Nat) (a1 : A1) (a2 : A2) (a3 : A3) (a4 : A4) (a5 : A5) (a6 : A6) (a7 : A7), I a1 a2 a3 a4 a5 a6 a7 → (∀ (b1 : A1) (b2 : A2) (b3 : A3) (b4 : A4) (b5 : A5) (b6 : A6) (b7 : A7), I b1 b2 b3 b4 b5 b6 b7 → μ b1 b2 b3 b4 b5 b6 b7 < μ a1 a2 a3 a4 a5 a6 a7 → W n b1 b2 b3 b4 b5 b6 b7) → W (n + 1) a1 a2 a3 a4 a5 a6 a7) (a1 : A1) (a2 : A2) (a3 : A3) (a4 : A4) (a5 : A5) (a6 : A6) (a7 : A7) (h : I a1 a2 a3 a4 a5 a6 a7) : ∃ n, W n a1 a2 a3 a4 a5 a6 a7 :=
  loop_m (σ := A1 × A2 × A3 × A4 × A5 × A6 × A7) (fun n s => W n s.1 s.2.1 s.2.2.1 s.2.2.2.1 s.2.2.2.2.1 s.2.2.2.2.2.1 s.2.2.2.2.2.2) (fun s => I s.1 s.2.1 s.2.2.1 s.2.2.2.1 s.2.2.2.2.1 s.2.2.2.2.2.1 s.2.2.2.2.2.2) (fun s => μ s.1 s.2.1 s.2.2.1 s.2.2.2.1 s.2.2.2.2.1 s.2.2.2.2.2.1 s.2.2.2.2.2.2) (fun n s hI hk => hs n s.1 s.2.1 s.2.2.1 s.2.2.2.1 s.2.2.2.2.1 s.2.2.2.2.2.1 s.2.2.2.2.2.2 hI (fun b1 b2 b3 b4 b5 b6 b7 h9 hm => hk (b1, b2, b3, b4, b5, b6, b7) h9 hm)) (a1, a2, a3, a4, a5, a6, a7) h
theorem lp8 {A1 A2 A3 A4 A5 A6 A7 A8 : Type} (W : Nat → A1 → A2 → A3 → A4 → A5 → A6 → A7 → A8 → Prop) (I : A1 → A2 → A3 → A4 → A5 → A6 → A7 → A8 → Prop) (μ : A1 → A2 → A3 → A4 → A5 → A6 → A7 → A8 → Nat) (hs : ∀ (n : Nat) (a1 : A1) (a2 : A2) (a3 : A3) (a4 : A4) (a5 : A5) (a6 : A6) (a7 : A7) (a8 : A8), I a1 a2 a3 a4 a5 a6 a7 a8 → (∀ (b1 : A1) (b2 : A2) (b3 : A3) (b4 : A4) (b5 : A5) (b6 : A6) (b7 : A7) (b8 : A8), I b1 b2 b3 b4 b5 b6 b7 b8 → μ b1 b2 b3 b4 b5 b6 b7 b8 < μ a1 a2 a3 a4 a5 a6 a7 a8 → W n b1 b2 b3 b4 b5 b6 b7 b8) → W (n + 1) a1 a2 a3 a4 a5 a6 a7 a8) (a1 : A1) (a2 : A2) (a3 : A3) (a4 : A4) (a5 : A5) (a6 : A6) (a7 : A7) (a8 : A8) (h : I a1 a2 a3 a4 a5 a6 a7 a8) : ∃ n, W n a1 a2 a3 a4 a5 a6 a7 a8 :=
  loop_m (σ := A1 × A2 × A3 × A4 × A5 × A6 × A7 × A8) (fun n s => W n s.1 s.2.1 s.2.2.1 s.2.2.2.1 s.2.2.2.2.1 s.2.2.2.2.2.1 s.2.2.2.2.2.2.1 s.2.2.2.2.2.2.2) (fun s => I s.1 s.2.1 s.2.2.1 s.2.2.2.1 s.2.2.2.2.1 s.2.2.2.2.2.1 s.2.2.2.2.2.2.1 s.2.2.2.2.2.2.2) (fun s => μ s.1 s.2.1 s.2.2.1 s.2.2.2.1 s.2.2.2.2.1 s.2.2.2.2.2.1 s.2.2.2.2.2.2.1 s.2.2.2.2.2.2.2) (fun n s hI hk => hs n s.1 s.2.1 s.2.2.1 s.2.2.2.1 s.2.2.2.2.1 s.2.2.2.2.2.1 s.2.2.2.2.2.2.1 s.2.2.2.2.2.2.2 hI (fun b1 b2 b3 b4 b5 b6 b7 b8 h9 hm => hk (b1, b2, b3, b4, b5, b6, b7, b8) h9 hm)) (a1, a2, a3, a4, a5, a6, a7, a8) h
theorem lp9 {A1 A2 A3 A4 A5 A6 A7 A8 A9 : Type} (W : Nat → A1 → A2 → A3 → A4 → A5 → A6 → A7 → A8 → A9 → Prop) (I : A1 → A2 → A3 → A4 → A5 → A6 → A7 → A8 → A9 → Prop) (μ : A1 → A2 → A3 → A4 → A5 → A6 → A7 → A8 → A9 → Nat) (hs : ∀ (n : Nat) (a1 : A1) (a2 : A2) (a3 : A3) (a4 : A4) (a5 : A5) (a6 : A6) (a7 : A7) (a8 : A8) (a9 : A9), I a1 a2 a3 a4 a5 a6 a7 a8 a9 → (∀ (b1 : A1) (b2 : A2) (b3 : A3) (b4 : A4) (b5 : A5) (b6 : A6) (b7 : A7) (b8 : A8) (b9 : A9), I b1 b2 b3 b4 b5 b6 b7 b8 b9 → μ b1 b2 b3 b4 b5 b6 b7 b8 b9 < μ a1 a2 a3 a4 a5 a6 a7 a8 a9 → W n b1 b2 b3 b4 b5 b6 b7 b8 b9) → W (n + 1) a1 a2 a3 a4 a5 a6 a7 a8 a9) (a1 : A1) (a2 : A2) (a3 : A3) (a4 : A4) (a5 : A5) (a6 : A6) (a7 : A7) (a8 : A8) (a9 : A9) (h : I a1 a2 a3 a4 a5 a6 a7 a8 a9) : ∃ n, W n a1 a2 a3 a4 a5 a6 a7 a8 a9 :=
  loop_m (σ := A1 × A2 × A3 × A4 × A5 × A6 × A7 × A8 × A9) (fun n s => W n s.1 s.2.1 s.2.2.1 s.2.2.2.1 s.2.2.2.2.1 s.2.2.2.2.2.1 s.2.2.2.2.2.2.1 s.2.2.2.2.2.2.2.1 s.2.2.2.2.2.2.2.2) (fun s => I s.1 s.2.1 s.2.2.1 s.2.2.2.1 s.2.2.2.2.1 s.2.2.2.2.2.1 s.2.2.2.2.2.2.1 s.2.2.2.2.2.2.2.1 s.2.2.2.2.2.2.2.2) (fun s => μ s.1 s.2.1 s.2.2.1 s.2.2.2.1 s.2.2.2.2.1 s.2.2.2.2.2.1 s.2.2.2.2.2.2.1 s.2.2.2.2.2.2.2.1 s.2.2.2.2.2.2.2.2) (fun n s hI hk => hs n s.1 s.2.1 s.2.2.1 s.2.2.2.1 s.2.2.2.2.1 s.2.2.2.2.2.1 s.2.2.2.2.2.2.1 s.2.2.2.2.2.2.2.1 s.2.2.2.2.2.2.2.2 hI (fun b1 b2 b3 b4 b5 b6 b7 b8 b9 h9 hm => hk (b1, b2, b3, b4, b5, b6, b7, b8, b9) h9 hm)) (a1, a2, a3, a4, a5, a6, a7, a8, a9) h
theorem lp10 {A1 A2 A3 A4 A5 A6 A7 A8 A9 A10 : Type} (W : Nat → A1 → A2 → A3 → A4 → A5 → A6 → A7 → A8 → A9 → A10 → Prop) (I : A1 → A2 → A3 → A4 → A5 → A6 → A7 → A8 → A9 → A10 → Prop) (μ : A1 → A2 → A3 → A4 → A5 → A6 → A7 → A8 → A9 → A10 → Nat) (hs : ∀ (n : Nat) (a1 : A1) (a2 : A2) (a3 : A3) (a4 : A4) (a5 : A5) (a6 : A6) (a7 : A7) (a8 : A8) (a9 : A9) (a10 : A10), I a1 a2 a3 a4 a5 a6 a7 a8 a9 a10 → (∀ (b1 : A1) (b2 : A2) (b3 : A3) (b4 : A4) (b5 : A5) (b6 : A6) (b7 : A7) (b8 : A8) (b9 : A9) (b10 : A10), I b1 b2 b3 b4 b5 b6 b7 b8 b9 b10 → μ b1 b2 b3 b4 b5 b6 b7 b8 b9 b10 < μ a1 a2 a3 a4 a5 a6 a7 a8 a9 a10 → W n b1 b2 b3 b4 b5 b6 b7 b8 b9 b10) → W (n + 1) a1 a2 a3 a4 a5 a6 a7 a8 a9 a10) (a1 : A1) (a2 : A2) (a3 : A3) (a4 : A4) (a5 : A5) (a6 : A6) (a7 : A7) (a8 : A8) (a9 : A9) (a10 : A10) (h : I a1 a2 a3 a4 a5 a6 a7 a8 a9 a10) : ∃ n, W n a1 a2 a3 a4 a5 a6 a7 a8 a9 a10 :=
  loop_m (σ := A1 × A2 × A3 × A4 × A5 × A6 × A7 × A8 × A9 × A10) (fun n s => W n s.1 s.2.1 s.2.2.1 s.2.2.2.1 s.2.2.2.2.1 s.2.2.2.2.2.1 s.2.2.2.2.2.2.1 s.2.2.2.2.2.2.2.1 s.2.2.2.2.2.2.2.2.1 s.2.2.2.2.2.2.2.2.2) (fun s => I s.1 s.2.1 s.2.2.1 s.2.2.2.1 s.2.2.2.2.1 s.2.2.2.2.2.1 s.2.2.2.2.2.2.1 s.2.2.2.2.2.2.2.1 s.2.2.2.2.2.2.2.2.1 s.2.2.2.2.2.2.2.2.2) (fun s => μ s.1 s.2.1 s.2.2.1 s.2.2.2.1 s.2.2.2.2.1 s.2.2.2.2.2.1 s.2.2.2.2.2.2.1 s.2.2.2.2.2.2.2.1 s.2.2.2.2.2.2.2.2.1 s.2.2.2.2.2.2.2.2.2) (fun n s hI hk => hs n s.1 s.2.1 s.2.2.1 s.2.2.2.1 s.2.2.2.2.1 s.2.2.2.2.2.1 s.2.2.2.2.2.2.1 s.2.2.2.2.2.2.2.1 s.2.2.2.2.2.2.2.2.1 s.2.2.2.2.2.2.2.2.2 hI (fun b1 b2 b3 b4 b5 b6 b7 b8 b9 b10 h9 hm => hk (b1, b2, b3, b4, b5, b6, b7, b8, b9, b10) h9 hm)) (a1, a2, a3, a4, a5, a6, a7, a8, a9, a10) h
theorem lp11 {A1 A2 A3 A4 A5 A6 A7 A8 A9 A10 A11 : Type} (W : Nat → A1 → A2 → A3 → A4 → A5 → A6 → A7 → A8 → A9 → A10 → A11 → Prop) (I : A1 → A2 → A3 → A4 → A5 → A6 → A7 → A8 → A9 → A10 → A11 → Prop) (μ : A1 → A2 → A3 → A4 → A5 → A6 → A7 → A8 → A9 → A10 → A11 → Nat) (hs : ∀ (n : Nat) (a1 : A1) (a2 : A2) (a3 : A3) (a4 : A4) (a5 : A5) (a6 : A6) (a7 : A7) (a8 : A8) (a9 : A9) (a10 : A10) (a11 : A11), I a1 a2 a3 a4 a5 a6 a7 a8 a9 a10 a11 → (∀ (b1 : A1) (b2 : A2) (b3 : A3) (b4 : A4) (b5 : A5) (b6 : A6) (b7 : A7) (b8 : A8) (b9 : A9) (b10 : A10) (b11 : A11), I b1 b2 b3 b4 b5 b6 b7 b8 b9 b10 b11 → μ b1 b2 b3 b4 b5 b6 b7 b8 b9 b10 b11 < μ a1 a2 a3 a4 a5 a6 a7 a8 a9 a10 a11 → W n b1 b2 b3 b4 b5 b6 b7 b8 b9 b10 b11) → W (n + 1) a1 a2 a3 a4 a5 a6 a7 a8 a9 a10 a11) (a1 : A1) (a2 : A2) (a3 : A3) (a4 : A4) (a5 : A5) (a6 : A6) (a7 : A7) (a8 : A8) (a9 : A9) (a10 : A10) (a11 : A11) (h : I a1 a2 a3 a4 a5 a6 a7 a8 a9 a10 a11) : ∃ n, W n a1 a2 a3 a4 a5 a6 a7 a8 a9 a10 a11 :=
  loop_m (σ := A1 × A2 × A3 × A4 × A5 × A6 × A7 × A8 × A9 × A10 × A11) (fun n s => W n s.1 s.2.1 s.2.2.1 s.2.2.2.1 s.2.2.2.2.1 s.2.2.2.2.2.1 s.2.2.2.2.2.2.1 s.2.2.2.2.2.2.2.1 s.2.2.2.2.2.2.2.2.1 s.2.2.2.2.2.2.2.2.2.1 s.2.2.2.2.2.2.2.2.2.2) (fun s => I s.1 s.2.1 s.2.2.1 s.2.2.2.1 s.2.2.2.2.1 s.2.2.2.2.2.1 s.2.2.2.2.2.2.1 s.2.2.2.2.2.2.2.1 s.2.2.2.2.2.2.2.2.1 s.2.2.2.2.2.2.2.2.2.1 s.2.2.2.2.2.2.2.2.2.2) (fun s => μ s.1 s.2.1 s.2.2.1 s.2.2.2.1 s.2.2.2.2.1 s.2.2.2.2.2.1 s.2.2.2.2.2.2.1 s.2.2.2.2.2.2.2.1 s.2.2.2.2.2.2.2.2.1 s.2.2.2.2.2.2.2.2.2.1 s.2.2.2.2.2.2.2.2.2.2) (fun n s hI hk => hs n s.1 s.2.1 s.2.2.1 s.2.2.2.1 s.2.2.2.2.1 s.2.2.2.2.2.1 s.2.2.2.2.2.2.1 s.2.2.2.2.2.2.2.1 s.2.2.2.2.2.2.2.2.1 s.2.2.2.2.2.2.2.2.2.1 s.2.2.2.2.2.2.2.2.2.2 hI (fun b1 b2 b3 b4 b5 b6 b7 b8 b9 b10 b11 h9 hm => hk (b1, b2, b3, b4, b5, b6, b7, b8, b9, b10, b11) h9 hm)) (a1, a2, a3, a4, a5, a6, a7, a8, a9, a10, a11) h
theorem lp12 {A1 A2 A3 A4 A5 A6 A7 A8 A9 A10 A11 A12 : Type} (W : Nat → A1 → A2 → A3 → A4 → A5 → A6 → A7 → A8 → A9 → A10 → A11 → A12 → Prop) (I : A1 → A2 → A3 → A4 → A5 → A6 → A7 → A8 → A9 → A10 → A11 → A12 → Prop) (μ : A1 → A2 → A3 → A4 → A5 → A6 → A7 → A8 → A9 → A10 → A11 → A12 → Nat) (hs : ∀ (n : Nat) (a1 : A1) (a2 : A2) (a3 : A3) (a4 : A4) (a5 : A5) (a6 : A6) (a7 : A7) (a8 : A8) (a9 : A9) (a10 : A10) (a11 : A11) (a12 : A12), I a1 a2 a3 a4 a5 a6 a7 a8 a9 a10 a11 a12 → (∀ (b1 : A1) (b2 : A2) (b3 : A3) (b4 : A4) (b5 : A5) (b6 : A6) (b7 : A7) (b8 : A8) (b9 : A9) (b10 : A10) (b11 : A11) (b12 : A12), I b1 b2 b3 b4 b5 b6 b7 b8 b9 b10 b11 b12 → μ b1 b2 b3 b4 b5 b6 b7 b8 b9 b10 b11 b12 < μ a1 a2 a3 a4 a5 a6 a7 a8 a9 a10 a11 a12 → W n b1 b2 b3 b4 b5 b6 b7 b8 b9 b10 b11 b12) → W (n + 1) a1 a2 a3 a4 a5 a6 a7 a8 a9 a10 a11 a12) (a1 : A1) (a2 : A2) (a3 : A3) (a4 : A4) (a5 : A5) (a6 : A6) (a7 : A7) (a8 : A8) (a9 : A9) (a10 : A10) (a11 : A11) (a12 : A12) (h : I a1 a2 a3 a4 a5 a6 a7 a8 a9 a10 a11 a12) : ∃ n, W n a1 a2 a3 a4 a5 a6 a7 a8 a9 a10 a11 a12 :=
  loop_m (σ := A1 × A2 × A3 × A4 × A5 × A6 × A7 × A8 × A9 × A10 × A11 × A12) (fun n s => W n s.1 s.2.1 s.2.2.1 s.2.2.2.1 s.2.2.2.2.1 s.2.2.2.2.2.1 s.2.2.2.2.2.2.1 s.2.2.2.2.2.2.2.1 s.2.2.2.2.2.2.2.2.1 s.2.2.2.2.2.2.2.2.2.1 s.2.2.2.2.2.2.2.2.2.2.1 s.2.2.2.2.2.2.2.2.2.2.2) (fun s => I s.1 s.2.1 s.2.2.1 s.2.2.2.1 s.2.2.2.2.1 s.2.2.2.2.2.1 s.2.2.2.2.2.2.1 s.2.2.2.2.2.2.2.1 s.2.2.2.2.2.2.2.2.1 s.2.2.2.2.2.2.2.2.2.1 s.2.2.2.2.2.2.2.2.2.2.1 s.2.2.2.2.2.2.2.2.2.2.2) (fun s => μ s.1 s.2.1 s.2.2.1 s.2.2.2.1 s.2.2.2.2.1 s.2.2.2.2.2.1 s.2.2.2.2.2.2.1 s.2.2.2.2.2.2.2.1 s.2.2.2.2.2.2.2.2.1 s.2.2.2.2.2.2.2.2.2.1 s.2.2.2.2.2.2.2.2.2.2.1 s.2.2.2.2.2.2.2.2.2.2.2) (fun n s hI hk => hs n s.1 s.2.1 s.2.2.1 s.2.2.2.1 s.2.2.2.2.1 s.2.2.2.2.2.1 s.2.2.2.2.2.2.1 s.2.2.2.2.2.2.2.1 s.2.2.2.2.2.2.2.2.1 s.2.2.2.2.2.2.2.2.2.1 s.2.2.2.2.2.2.2.2.2.2.1 s.2.2.2.2.2.2.2.2.2.2.2 hI (fun b1 b2 b3 b4 b5 b6 b7 b8 b9 b10 b11 b12 h9 hm => hk (b1, b2, b3, b4, b5, b6, b7, b8, b9, b10, b11, b12) h9 hm)) (a1, a2, a3, a4, a5, a6, a7, a8, a9, a10, a11, a12) h
theorem lp13 {A1 A2 A3 A4 A5 A6 A7 A8 A9 A10 A11 A12 A13 : Type} (W : Nat → A1 → A2 → A3 → A4 → A5 → A6 → A7 → A8 → A9 → A10 → A11 → A12 → A13 → Prop) (I : A1 → A2 → A3 → A4 → A5 → A6 → A7 → A8 → A9 → A10 → A11 → A12 → A13 → Prop) (μ : A1 → A2 → A3 → A4 → A5 → A6 → A7 → A8 → A9 → A10 → A11 → A12 → A13 → Nat) (hs : ∀ (n : Nat) (a1 : A1) (a2 : A2) (a3 : A3) (a4 : A4) (a5 : A5) (a6 : A6) (a7 : A7) (a8 : A8) (a9 : A9) (a10 : A10) (a11 : A11) (a12 : A12) (a13 : A13), I a1 a2 a3 a4 a5 a6 a7 a8 a9 a10 a11 a12 a13 → (∀ (b1 : A1) (b2 : A2) (b3 : A3) (b4 : A4) (b5 : A5) (b6 : A6) (b7 : A7) (b8 : A8) (b9 : A9) (b10 : A10) (b11 : A11) (b12 : A12) (b13 : A13), I b1 b2 b3 b4 b5 b6 b7 b8 b9 b10 b11 b12 b13 → μ b1 b2 b3 b4 b5 b6 b7 b8 b9 b10 b11 b12 b13 < μ a1 a2 a3 a4 a5 a6 a7 a8 a9 a10 a11 a12 a13 → W n b1 b2 b3 b4 b5 b6 b7 b8 b9 b10 b11 b12 b13) → W (n + 1) a1 a2 a3 a4 a5 a6 a7 a8 a9 a10 a11 a12 a13) (a1 : A1) (a2 : A2) (a3 : A3) (a4 : A4) (a5 : A5) (a6 : A6) (a7 : A7) (a8 : A8) (a9 : A9) (a10 : A10) (a11 : A11) (a12 : A12) (a13 : A13) (h : I a1 a2 a3 a4 a5 a6 a7 a8 a9 a10 a11 a12 a13) : ∃ n, W n a1 a2 a3 a4 a5 a6 a7 a8 a9 a10 a11 a12 a13 :=
  loop_m (σ := A1 × A2 × A3 × A4 × A5 × A6 × A7 × A8 × A9 × A10 × A11 × A12 × A13) (fun n s => W n s.1 s.2.1 s.2.2.1 s.2.2.2.1 s.2.2.2.2.1 s.2.2.2.2.2.1 s.2.2.2.2.2.2.1 s.2.2.2.2.2.2.2.1 s.2.2.2.2.2.2.2.2.1 s.2.2.2.2.2.2.2.2.2.1 s.2.2.2.2.2.2.2.2.2.2.1 s.2.2.2.2.2.2.2.2.2.2.2.1 s.2.2.2.2.2.2.2.2.2.2.2.2) (fun s => I s.1 s.2.1 s.2.2.1 s.2.2.2.1 s.2.2.2.2.1 s.2.2.2.2.2.1 s.2.2.2.2.2.2.1 s.2.2.2.2.2.2.2.1 s.2.2.2.2.2.2.2.2.1 s.2.2.2.2.2.2.2.2.2.1 s.2.2.2.2.2.2.2.2.2.2.1 s.2.2.2.2.2.2.2.2.2.2.2.1 s.2.2.2.2.2.2.2.2.2.2.2.2) (fun s => μ s.1 s.2.1 s.2.2.1 s.2.2.2.1 s.2.2.2.2.1 s.2.2.2.2.2.1 s.2.2.2.2.2.2.1 s.2.2.2.2.2.2.2.1 s.2.2.2.2.2.2.2.2.1 s.2.2.2.2.2.2.2.2.2.1 s.2.2.2.2.2.2.2.2.2.2.1 s.2.2.2.2.2.2.2.2.2.2.2.1 s.2.2.2.2.2.2.2.2.2.2.2.2) (fun n s hI hk => hs n s.1 s.2.1 s.2.2.1 s.2.2.2.1 s.2.2.2.2.1 s.2.2.2.2.2.1 s.2.2.2.2.2.2.1 s.2.2.2.2.2.2.2.1 s.2.2.2.2.2.2.2.2.1 s.2.2.2.2.2.2.2.2.2.1 s.2.2.2.2.2.2.2.2.2.2.1 s.2.2.2.2.2.2.2.2.2.2.2.1 s.2.2.2.2.2.2.2.2.2.2.2.2 hI (fun b1 b2 b3 b4 b5 b6 b7 b8 b9 b10 b11 b12 b13 h9 hm => hk (b1, b2, b3, b4, b5, b6, b7, b8, b9, b10, b11, b12, b13) h9 hm)) (a1, a2, a3, a4, a5, a6, a7, a8, a9, a10, a11, a12, a13) h
theorem lp14 {A1 A2 A3 A4 A5 A6 A7 A8 A9 A10 A11 A12 A13 A14 : Type} (W : Nat → A1 → A2 → A3 → A4 → A5 → A6 → A7 → A8 → A9 → A10 → A11 → A12 → A13 → A14 → Prop) (I : A1 → A2 → A3 → A4 → A5 → A6 → A7 → A8 → A9 → A10 → A11 → A12 → A13 → A14 → Prop) (μ : A1 → A2 → A3 → A4 → A5 → A6 → A7 → A8 → A9 → A10 → A11 → A12 → A13 → A14 → Nat) (hs : ∀ (n : Nat) (a1 : A1) (a2 : A2) (a3 : A3) (a4 : A4) (a5 : A5) (a6 : A6) (a7 : A7) (a8 : A8) (a9 : A9) (a10 : A10) (a11 : A11) (a12 : A12) (a13 : A13) (a14 : A14), I a1 a2 a3 a4 a5 a6 a7 a8 a9 a10 a11 a12 a13 a14 → (∀ (b1 : A1) (b2 : A2) (b3 : A3) (b4 : A4) (b5 : A5) (b6 : A6) (b7 : A7) (b8 : A8) (b9 : A9) (b10 : A10) (b11 : A11) (b12 : A12) (b13 : A13) (b14 : A14), I b1 b2 b3 b4 b5 b6 b7 b8 b9 b10 b11 b12 b13 b14 → μ b1 b2 b3 b4 b5 b6 b7 b8 b9 b10 b11 b12 b13 b14 < μ a1 a2 a3 a4 a5 a6 a7 a8 a9 a10 a11 a12 a13 a14 → W n b1 b2 b3 b4 b5 b6 b7 b8 b9 b10 b11 b12 b13 b14) → W (n + 1) a1 a2 a3 a4 a5 a6 a7 a8 a9 a10 a11 a12 a13 a14) (a1 : A1) (a2 : A2) (a3 : A3) (a4 : A4) (a5 : A5) (a6 : A6) (a7 : A7) (a8 : A8) (a9 : A9) (a10 : A10) (a11 : A11) (a12 : A12) (a13 : A13) (a14 : A14) (h : I a1 a2 a3 a4 a5 a6 a7 a8 a9 a10 a11 a12 a13 a14) : ∃ n, W n a1 a2 a3 a4 a5 a6 a7 a8 a9 a10 a11 a12 a13 a14 :=
  loop_m (σ := A1 × A2 × A3 × A4 × A5 × A6 × A7 × A8 × A9 × A10 × A11 × A12 × A13 × A14) (fun n s => W n s.1 s.2.1 s.2.2.1 s.2.2.2.1 s.2.2.2.2.1 s.2.2.2.2.2.1 s.2.2.2.2.2.2.1 s.2.2.2.2.2.2.2.1 s.2.2.2.2.2.2.2.2.1 s.2.2.2.2.2.2.2.2.2.1 s.2.2.2.2.2.2.2.2.2.2.1 s.2.2.2.2.2.2.2.2.2.2.2.1 s.2.2.2.2.2.2.2.2.2.2.2.2.1 s.2.2.2.2.2.2.2.2.2.2.2.2.2) (fun s => I s.1 s.2.1 s.2.2.1 s.2.2.2.1 s.2.2.2.2.1 s.2.2.2.2.2.1 s.2.2.2.2.2.2.1 s.2.2.2.2.2.2.2.1 s.2.2.2.2.2.2.2.2.1 s.2.2.2.2.2.2.2.2.2.1 s.2.2.2.2.2.2.2.2.2.2.1 s.2.2.2.2.2.2.2.2.2.2.2.1 s.2.2.2.2.2.2.2.2.2.2.2.2.1 s.2.2.2.2.2.2.2.2.2.2.2.2.2) (fun s => μ s.1 s.2.1 s.2.2.1 s.2.2.2.1 s.2.2.2.2.1 s.2.2.2.2.2.1 s.2.2.2.2.2.2.1 s.2.2.2.2.2.2.2.1 s.2.2.2.2.2.2.2.2.1 s.2.2.2.2.2.2.2.2.2.1 s.2.2.2.2.2.2.2.2.2.2.1 s.2.2.2.2.2.2.2.2.2.2.2.1 s.2.2.2.2.2.2.2.2.2.2.2.2.1 s.2.2.2.2.2.2.2.2.2.2.2.2.2) (fun n s hI hk => hs n s.1 s.2.1 s.2.2.1 s.2.2.2.1 s.2.2.2.2.1 s.2.2.2.2.2.1 s.2.2.2.2.2.2.1 s.2.2.2.2.2.2.2.1 s.2.2.2.2.2.2.2.2.1 s.2.2.2.2.2.2.2.2.2.1 s.2.2.2.2.2.2.2.2.2.2.1 s.2.2.2.2.2.2.2.2.2.2.2.1 s.2.2.2.2.2.2.2.2.2.2.2.2.1 s.2.2.2.2.2.2.2.2.2.2.2.2.2 hI (fun b1 b2 b3 b4 b5 b6 b7 b8 b9 b10 b11 b12 b13 b14 h9 hm => hk (b1, b2, b3, b4, b5, b6, b7, b8, b9, b10, b11, b12, b13, b14) h9 hm)) (a1, a2, a3, a4, a5, a6, a7, a8, a9, a10, a11, a12, a13, a14) h
theorem lp15 {A1 A2 A3 A4 A5 A6 A7 A8 A9 A10 A11 A12 A13 A14 A15 : Type} (W : Nat → A1 → A2 → A3 → A4 → A5 → A6 → A7 → A8 → A9 → A10 → A11 → A12 → A13 → A14 → A15 → Prop) (I : A1 → A2 → A3 → A4 → A5 → A6 → A7 → A8 → A9 → A10 → A11 → A12 → A13 → A14 → A15 → Prop) (μ : A1 → A2 → A3 → A4 → A5 → A6 → A7 → A8 → A9 → A10 → A11 → A12 → A13 → A14 → A15 → Nat) (hs : ∀ (n : Nat) (a1 : A1) (a2 : A2) (a3 : A3) (a4 : A4) (a5 : A5) (a6 : A6) (a7 : A7) (a8 : A8) (a9 : A9) (a10 : A10) (a11 : A11) (a12 : A12) (a13 : A13) (a14 : A14) (a15 : A15), I a1 a2 a3 a4 a5 a6 a7 a8 a9 a10 a11 a12 a13 a14 a15 → (∀ (b1 : A1) (b2 : A2) (b3 : A3) (b4 : A4) (b5 : A5) (b6 : A6) (b7 : A7) (b8 : A8) (b9 : A9) (b10 : A10) (b11 : A11) (b12 : A12) (b13 : A13) (b14 : A14) (b15 : A15), I b1 b2 b3 b4 b5 b6 b7 b8 b9 b10 b11 b12 b13 b14 b15 → μ b1 b2 b3 b4 b5 b6 b7 b8 b9 b10 b11 b12 b13 b14 b15 < μ a1 a2 a3 a4 a5 a6 a7 a8 a9 a10 a11 a12 a13 a14 a15 → W n b1 b2 b3 b4 b5 b6 b7 b8 b9 b10 b11 b12 b13 b14 b15) → W (n + 1) a1 a2 a3 a4 a5 a6 a7 a8 a9 a10 a11 a12 a13 a14 a15) (a1 : A1) (a2 : A2) (a3 : A3) (a4 : A4) (a5 : A5) (a6 : A6) (a7 : A7) (a8 : A8) (a9 : A9) (a10 : A10) (a11 : A11) (a12 : A12) (a13 : A13) (a14 : A14) (a15 : A15) (h : I a1 a2 a3 a4 a5 a6 a7 a8 a9 a10 a11 a12 a13 a14 a15) : ∃ n, W n a1 a2 a3 a4 a5 a6 a7 a8 a9 a10 a11 a12 a13 a14 a15 :=
  loop_m (σ := A1 × A2 × A3 × A4 × A5 × A6 × A7 × A8 × A9 × A10 × A11 × A12 × A13 × A14 × A15) (fun n s => W n s.1 s.2.1 s.2.2.1 s.2.2.2.1 s.2.2.2.2.1 s.2.2.2.2.2.1 s.2.2.2.2.2.2.1 s.2.2.2.2.2.2.2.1 s.2.2.2.2.2.2.2.2.1 s.2.2.2.2.2.2.2.2.2.1 s.2.2.2.2.2.2.2.2.2.2.1 s.2.2.2.2.2.2.2.2.2.2.2.1 s.2.2.2.2.2.2.2.2.2.2.2.2.1 s.2.2.2.2.2.2.2.2.2.2.2.2.2.1 s.2.2.2.2.2.2.2.2.2.2.2.2.2.2) (fun s => I s.1 s.2.1 s.2.2.1 s.2.2.2.1 s.2.2.2.2.1 s.2.2.2.2.2.1 s.2.2.2.2.2.2.1 s.2.2.2.2.2.2.2.1 s.2.2.2.2.2.2.2.2.1 s.2.2.2.2.2.2.2.2.2.1 s.2.2.2.2.2.2.2.2.2.2.1 s.2.2.2.2.2.2.2.2.2.2.2.1 s.2.2.2.2.2.2.2.2.2.2.2.2.1 s.2.2.2.2.2.2.2.2.2.2.2.2.2.1 s.2.2.2.2.2.2.2.2.2.2.2.2.2.2) (fun s => μ s.1 s.2.1 s.2.2.1 s.2.2.2.1 s.2.2.2.2.1 s.2.2.2.2.2.1 s.2.2.2.2.2.2.1 s.2.2.2.2.2.2.2.1 s.2.2.2.2.2.2.2.2.1 s.2.2.2.2.2.2.2.2.2.1 s.2.2.2.2.2.2.2.2.2.2.1 s.2.2.2.2.2.2.2.2.2.2.2.1 s.2.2.2.2.2.2.2.2.2.2.2.2.1 s.2.2.2.2.2.2.2.2.2.2.2.2.2.1 s.2.2.2.2.2.2.2.2.2.2.2.2.2.2) (fun n s hI hk => hs n s.1 s.2.1 s.2.2.1 s.2.2.2.1 s.2.2.2.2.1 s.2.2.2.2.2.1 s.2.2.2.2.2.2.1 s.2.2.2.2.2.2.2.1 s.2.2.2.2.2.2.2.2.1 s.2.2.2.2.2.2.2.2.2.1 s.2.2.2.2.2.2.2.2.2.2.1 s.2.2.2.2.2.2.2.2.2.2.2.1 s.2.2.2.2.2.2.2.2.2.2.2.2.1 s.2.2.2.2.2.2.2.2.2.2.2.2.2.1 s.2.2.2.2.2.2.2.2.2.2.2.2.2.2 hI (fun b1 b2 b3 b4 b5 b6 b7 b8 b9 b10 b11 b12 b13 b14 b15 h9 hm => hk (b1, b2, b3, b4, b5, b6, b7, b8, b9, b10, b11, b12, b13, b14, b15) h9 hm)) (a1, a2, a3, a4, a5, a6, a7, a8, a9, a10, a11, a12, a13, a14, a15) h
theorem lp16 {A1 A2 A3 A4 A5 A6 A7 A8 A9 A10 A11 A12 A13 A14 A15 A16 : Type} (W : Nat → A1 → A2 → A3 → A4 → A5 → A6 → A7 → A8 → A9 → A10 → A11 → A12 → A13 → A14 → A15 → A16 → Prop) (I : A1 → A2 → A3 → A4 → A5 → A6 → A7 → A8 → A9 → A10 → A11 → A12 → A13 → A14 → A15 → A16 → Prop) (μ : A1 → A2 → A3 → A4 → A5 → A6 → A7 → A8 → A9 → A10 → A11 → A12 → A13 → A14 → A15 → A16 → Nat) (hs : ∀ (n : Nat) (a1 : A1) (a2 : A2) (a3 : A3) (a4 : A4) (a5 : A5) (a6 : A6) (a7 : A7) (a8 : A8) (a9 : A9) (a10 : A10) (a11 : A11) (a12 : A12) (a13 : A13) (a14 : A14) (a15 : A15) (a16 : A16), I a1 a2 a3 a4 a5 a6 a7 a8 a9 a10 a11 a12 a13 a14 a15 a16 → (∀ (b1 : A1) (b2 : A2) (b3 : A3) (b4 : A4) (b5 : A5) (b6 : A6) (b7 : A7) (b8 : A8) (b9 : A9) (b10 : A10) (b11 : A11) (b12 : A12) (b13 : A13) (b14 : A14) (b15 : A15) (b16 : A16), I b1 b2 b3 b4 b5 b6 b7 b8 b9 b10 b11 b12 b13 b14 b15 b16 → μ b1 b2 b3 b4 b5 b6 b7 b8 b9 b10 b11 b12 b13 b14 b15 b16 < μ a1 a2 a3 a4 a5 a6 a7 a8 a9 a10 a11 a12 a13 a14 a15 a16 → W n b1 b2 b3 b4 b5 b6 b7 b8 b9 b10 b11 b12 b13 b14 b15 b16) → W (n + 1) a1 a2 a3 a4 a5 a6 a7 a8 a9 a10 a11 a12 a13 a14 a15 a16) (a1 : A1) (a2 : A2) (a3 : A3) (a4 : A4) (a5 : A5) (a6 : A6) (a7 : A7) (a8 : A8) (a9 : A9) (a10 : A10) (a11 : A11) (a12 : A12) (a13 : A13) (a14 : A14) (a15 : A15) (a16 : A16) (h : I a1 a2 a3 a4 a5 a6 a7 a8 a9 a10 a11 a12 a13 a14 a15 a16) : ∃ n, W n a1 a2 a3 a4 a5 a6 a7 a8 a9 a10 a11 a12 a13 a14 a15 a16 :=
  loop_m (σ := A1 × A2 × A3 × A4 × A5 × A6 × A7 × A8 × A9 × A10 × A11 × A12 × A13 × A14 × A15 × A16) (fun n s => W n s.1 s.2.1 s.2.2.1 s.2.2.2.1 s.2.2.2.2.1 s.2.2.2.2.2.1 s.2.2.2.2.2.2.1 s.2.2.2.2.2.2.2.1 s.2.2.2.2.2.2.2.2.1 s.2.2.2.2.2.2.2.2.2.1 s.2.2.2.2.2.2.2.2.2.2.1 s.2.2.2.2.2.2.2.2.2.2.2.1 s.2.2.2.2.2.2.2.2.2.2.2.2.1 s.2.2.2.2.2.2.2.2.2.2.2.2.2.1 s.2.2.2.2.2.2.2.2.2.2.2.2.2.2.1 s.2.2.2.2.2.2.2.2.2.2.2.2.2.2.2) (fun s => I s.1 s.2.1 s.2.2.1 s.2.2.2.1 s.2.2.2.2.1 s.2.2.2.2.2.1 s.2.2.2.2.2.2.1 s.2.2.2.2.2.2.2.1 s.2.2.2.2.2.2.2.2.1 s.2.2.2.2.2.2.2.2.2.1 s.2.2.2.2.2.2.2.2.2.2.1 s.2.2.2.2.2.2.2.2.2.2.2.1 s.2.2.2.2.2.2.2.2.2.2.2.2.1 s.2.2.2.2.2.2.2.2.2.2.2.2.2.1 s.2.2.2.2.2.2.2.2.2.2.2.2.2.2.1 s.2.2.2.2.2.2.2.2.2.2.2.2.2.2.2) (fun s => μ s.1 s.2.1 s.2.2.1 s.2.2.2.1 s.2.2.2.2.1 s.2.2.2.2.2.1 s.2.2.2.2.2.2.1 s.2.2.2.2.2.2.2.1 s.2.2.2.2.2.2.2.2.1 s.2.2.2.2.2.2.2.2.2.1 s.2.2.2.2.2.2.2.2.2.2.1 s.2.2.2.2.2.2.2.2.2.2.2.1 s.2.2.2.2.2.2.2.2.2.2.2.2.1 s.2.2.2.2.2.2.2.2.2.2.2.2.2.1 s.2.2.2.2.2.2.2.2.2.2.2.2.2.2.1 s.2.2.2.2.2.2.2.2.2.2.2.2.2.2.2) (fun n s hI hk => hs n s.1 s.2.1 s.2.2.1 s.2.2.2.1 s.2.2.2.2.1 s.2.2.2.2.2.1 s.2.2.2.2.2.2.1 s.2.2.2.2.2.2.2.1 s.2.2.2.2.2.2.2.2.1 s.2.2.2.2.2.2.2.2.2.1 s.2.2.2.2.2.2.2.2.2.2.1 s.2.2.2.2.2.2.2.2.2.2.2.1 s.2.2.2.2.2.2.2.2.2.2.2.2.1 s.2.2.2.2.2.2.2.2.2.2.2.2.2.1 s.2.2.2.2.2.2.2.2.2.2.2.2.2.2.1 s.2.2.2.2.2.2.2.2.2.2.2.2.2.2.2 hI (fun b1 b2 b3 b4 b5 b6 b7 b8 b9 b10 b11 b12 b13 b14 b15 b16 h9 hm => hk (b1, b2, b3, b4, b5, b6, b7, b8, b9, b10, b11, b12, b13, b14, b15, b16) h9 hm)) (a1, a2, a3, a4, a5, a6, a7, a8, a9, a10, a11, a12, a13, a14, a15, a16) h
theorem pk_least (P : Nat → Prop) (h : ∃ k, P k) : ∃ k, P k ∧ ∀ j, j < k → ¬ P j := by
  obtain ⟨k, hk⟩ := h
  induction k using Nat.strongRecOn with
  | ind k ih =>
    by_cases e : ∃ j, j < k ∧ P j
    · obtain ⟨j, hj, pj⟩ := e
      exact ih j hj pj
    · exact ⟨k, hk, fun j hj pj => e ⟨j, hj, pj⟩⟩
theorem rp1 {ρ A1 : Type} (W : Nat → (ρ → Prop) → A1 → Prop) (ok : A1 → Prop) (μ : A1 → Nat) (val : A1 → ρ)
    (hs : ∀ (d : Nat) (post : ρ → Prop) (a1 : A1), ok a1 → post (val a1) → (∀ (post' : ρ → Prop) (b1 : A1), ok b1 → μ b1 < μ a1 → post' (val b1) → W d post' b1) → W (d + 1) post a1) :
    ∀ (d : Nat) (post : ρ → Prop) (a1 : A1), ok a1 → μ a1 < d → post (val a1) → W d post a1 := by
  intro d
  induction d with
  | zero => intro post a1 _ h; omega
  | succ d ih =>
    intro post a1 ho hm hp
    exact hs d post a1 ho hp (fun post' b1 ho' hm' hp' => ih post' b1 ho' (by omega) hp')
theorem rp2 {ρ A1 A2 : Type} (W : Nat → (ρ → Prop) → A1 → A2 → Prop) (ok : A1 → A2 → Prop) (μ : A1 → A2 → Nat) (val : A1 → A2 → ρ)
    (hs : ∀ (d : Nat) (post : ρ → Prop) (a1 : A1) (a2 : A2), ok a1 a2 → post (val a1 a2) → (∀ (post' : ρ → Prop) (b1 : A1) (b2 : A2), ok b1 b2 → μ b1 b2 < μ a1 a2 → post' (val b1 b2) → W d post' b1 b2) → W (d + 1) post a1 a2) :
    ∀ (d : Nat) (post : ρ → Prop) (a1 : A1) (a2 : A2), ok a1 a2 → μ a1 a2 < d → post (val a1 a2) → W d post a1 a2 := by
  intro d
  induction d with
  | zero => intro post a1 a2 _ h; omega
  | succ d ih =>
    intro post a1 a2 ho hm hp
    exact hs d post a1 a2 ho hp (fun post' b1 b2 ho' hm' hp' => ih post' b1 b2 ho' (by omega) hp')
theorem rp3 {ρ A1 A2 A3 : Type} (W : Nat → (ρ → Prop) → A1 → A2 → A3 → Prop) (ok : A1 → A2 → A3 → Prop) (μ : A1 → A2 → A3 → Nat) (val : A1 → A2 → A3 → ρ)
    (hs : ∀ (d : Nat) (post : ρ → Prop) (a1 : A1) (a2 : A2) (a3 : A3), ok a1 a2 a3 → post (val a1 a2 a3) → (∀ (post' : ρ → Prop) (b1 : A1) (b2 : A2) (b3 : A3), ok b1 b2 b3 → μ b1 b2 b3 < μ a1 a2 a3 → post' (val b1 b2 b3) → W d post' b1 b2 b3) → W (d + 1) post a1 a2 a3) :
    ∀ (d : Nat) (post : ρ → Prop) (a1 : A1) (a2 : A2) (a3 : A3), ok a1 a2 a3 → μ a1 a2 a3 < d → post (val a1 a2 a3) → W d post a1 a2 a3 := by
  intro d
  induction d with
  | zero => intro post a1 a2 a3 _ h; omega
  | succ d ih =>
    intro post a1 a2 a3 ho hm hp
    exact hs d post a1 a2 a3 ho hp (fun post' b1 b2 b3 ho' hm' hp' => ih post' b1 b2 b3 ho' (by omega) hp')
theorem rp4 {ρ A1 A2 A3 A4 : Type} (W : Nat → (ρ → Prop) → A1 → A2 → A3 → A4 → Prop) (ok : A1 → A2 → A3 → A4 → Prop) (μ : A1 → A2 → A3 → A4 → Nat) (val : A1 → A2 → A3 → A4 → ρ)
    (hs : ∀ (d : Nat) (post : ρ → Prop) (a1 : A1) (a2 : A2) (a3 : A3) (a4 : A4), ok a1 a2 a3 a4 → post (val a1 a2 a3 a4) → (∀ (post' : ρ → Prop) (b1 : A1) (b2 : A2) (b3 : A3) (b4 : A4), ok b1 b2 b3 b4 → μ b1 b2 b3 b4 < μ a1 a2 a3 a4 → post' (val b1 b2 b3 b4) → W d post' b1 b2 b3 b4) → W (d + 1) post a1 a2 a3 a4) :
    ∀ (d : Nat) (post : ρ → Prop) (a1 : A1) (a2 : A2) (a3 : A3) (a4 : A4), ok a1 a2 a3 a4 → μ a1 a2 a3 a4 < d → post (val a1 a2 a3 a4) → W d post a1 a2 a3 a4 := by
  intro d
  induction d with
  | zero => intro post a1 a2 a3 a4 _ h; omega
  | succ d ih =>
    intro post a1 a2 a3 a4 ho hm hp
    exact hs d post a1 a2 a3 a4 ho hp (fun post' b1 b2 b3 b4 ho' hm' hp' => ih post' b1 b2 b3 b4 ho' (by omega) hp')
theorem rp5 {ρ A1 A2 A3 A4 A5 : Type} (W : Nat → (ρ → Prop) → A1 → A2 → A3 → A4 → A5 → Prop) (ok : A1 → A2 → A3 → A4 → A5 → Prop) (μ : A1 → A2 → A3 → A4 → A5 → Nat) (val : A1 → A2 → A3 → A4 → A5 → ρ)
    (hs : ∀ (d : Nat) (post : ρ → Prop) (a1 : A1) (a2 : A2) (a3 : A3) (a4 : A4) (a5 : A5), ok a1 a2 a3 a4 a5 → post (val a1 a2 a3 a4 a5) → (∀ (post' : ρ → Prop) (b1 : A1) (b2 : A2) (b3 : A3) (b4 : A4) (b5 : A5), ok b1 b2 b3 b4 b5 → μ b1 b2 b3 b4 b5 < μ a1 a2 a3 a4 a5 → post' (val b1 b2 b3 b4 b5) → W d post' b1 b2 b3 b4 b5) → W (d + 1) post a1 a2 a3 a4 a5) :
    ∀ (d : Nat) (post : ρ → Prop) (a1 : A1) (a2 : A2) (a3 : A3) (a4 : A4) (a5 : A5), ok a1 a2 a3 a4 a5 → μ a1 a2 a3 a4 a5 < d → post (val a1 a2 a3 a4 a5) → W d post a1 a2 a3 a4 a5 := by
  intro d
  induction d with
  | zero => intro post a1 a2 a3 a4 a5 _ h; omega
  | succ d ih =>
    intro post a1 a2 a3 a4 a5 ho hm hp
    exact hs d post a1 a2 a3 a4 a5 ho hp (fun post' b1 b2 b3 b4 b5 ho' hm' hp' => ih post' b1 b2 b3 b4 b5 ho' (by omega) hp')
theorem rp6 {ρ A1 A2 A3 A4 A5 A6 : Type} (W : Nat → (ρ → Prop) → A1 → A2 → A3 → A4 → A5 → A6 → Prop) (ok : A1 → A2 → A3 → A4 → A5 → A6 → Prop) (μ : A1 → A2 → A3 → A4 → A5 → A6 → Nat) (val : A1 → A2 → A3 → A4 → A5 → A6 → ρ)
    (hs : ∀ (d : Nat) (post : ρ → Prop) (a1 : A1) (a2 : A2) (a3 : A3) (a4 : A4) (a5 : A5) (a6 : A6), ok a1 a2 a3 a4 a5 a6 → post (val a1 a2 a3 a4 a5 a6) → (∀ (post' : ρ → Prop) (b1 : A1) (b2 : A2) (b3 : A3) (b4 : A4) (b5 : A5) (b6 : A6), ok b1 b2 b3 b4 b5 b6 → μ b1 b2 b3 b4 b5 b6 < μ a1 a2 a3 a4 a5 a6 → post' (val b1 b2 b3 b4 b5 b6) → W d post' b1 b2 b3 b4 b5 b6) → W (d + 1) post a1 a2 a3 a4 a5 a6) :
    ∀ (d : Nat) (post : ρ → Prop) (a1 : A1) (a2 : A2) (a3 : A3) (a4 : A4) (a5 : A5) (a6 : A6), ok a1 a2 a3 a4 a5 a6 → μ a1 a2 a3 a4 a5 a6 < d → post (val a1 a2 a3 a4 a5 a6) → W d post a1 a2 a3 a4 a5 a6 := by
  intro d
  induction d with
  | zero => intro post a1 a2 a3 a4 a5 a6 _ h; omega
  | succ d ih =>
    intro post a1 a2 a3 a4 a5 a6 ho hm hp
    exact hs d post a1 a2 a3 a4 a5 a6 ho hp (fun post' b1 b2 b3 b4 b5 b6 ho' hm' hp' => ih post' b1 b2 b3 b4 b5 b6 ho' (by omega) hp')
theorem rec_p {σ ρ : Type} (W : Nat → (ρ → Prop) → σ → Prop) (ok : σ → Prop) (μ : σ → Nat) (val : σ → ρ)
    (hs : ∀ d s post, ok s → post (val s) → (∀ s' post', ok s' → μ s' < μ s → post' (val s') → W d post' s') → W (d + 1) post s) :
    ∀ d s post, ok s → μ s < d → post (val s) → W d post s := by
  intro d
  induction d with
  | zero => intro s post _ h; omega
  | succ d ih =>
    intro s post ho hm hp
    exact hs d s post ho hp (fun s' post' ho' hm' hp' => ih s' post' ho' (by omega) hp')
theorem rec_q {σ ρ : Type} (W : Nat → (ρ → Prop) → σ → Prop) (ok : σ → Prop) (μ : σ → Nat) (Q : σ → ρ → Prop)
    (hs : ∀ d s post, ok s → (∀ r, Q s r → post r) → (∀ s' post', ok s' → μ s' < μ s → (∀ r, Q s' r → post' r) → W d post' s') → W (d + 1) post s) :
    ∀ d s post, ok s → μ s < d → (∀ r, Q s r → post r) → W d post s := by
  intro d
  induction d with
  | zero => intro s post _ h; omega
  | succ d ih =>
    intro s post ho hm hp
    exact hs d s post ho hp (fun s' post' ho' hm' hp' => ih s' post' ho' (by omega) hp')
def bx_sum (f : Nat → Int32) : Nat → Int32
  | 0 => 0
  | n + 1 => bx_sum f n + f n
theorem ek_u {A : Prop} {B : Nat → Prop} {k N : Nat} (hk : k < N) (h : B k) : (some k = none → A) ∧ (∀ y : Nat, some k = some y → (y < N ∧ B y)) :=
  ⟨fun z => absurd z (Option.some_ne_none k), fun _ e => (by cases e; exact ⟨hk, h⟩)⟩
theorem ek_nu {A : Prop} {B : Nat → Prop} (h : A) : ((none : Option Nat) = none → A) ∧ (∀ y : Nat, (none : Option Nat) = some y → B y) :=
  ⟨fun _ => h, fun _ e => (by cases e)⟩
theorem ek_if {c d A B : Prop} (e : c ↔ d) (f : d → A) (g : ¬ d → B) : (c → A) ∧ (¬ c → B) :=
  ⟨fun z => f (e.mp z), fun z => g (fun y => z (e.mpr y))⟩
theorem ek_v {α : Sort _} {P : α → Prop} {a b : α} (e : a = b) (h : P b) : P a := e ▸ h
theorem co_some {x : Option Nat} {A : Prop} {B : Nat → Prop} (i : Nat) (h : B i) (hx : x = some i := by rfl) : (x = none → A) ∧ (∀ y : Nat, x = some y → B y) := by
  subst hx
  exact ⟨fun e => (nomatch e), fun y e => Option.some.inj e ▸ h⟩
theorem co_none {x : Option Nat} {A : Prop} {B : Nat → Prop} (h : A) (hx : x = none := by rfl) : (x = none → A) ∧ (∀ y : Nat, x = some y → B y) := by
  subst hx
  exact ⟨fun _ => h, fun y e => (nomatch e)⟩
theorem co_any {x : Option Nat} {A : Prop} {B : Nat → Prop} (hn : x = none → A) (hs : ∀ i : Nat, x = some i → B i) : (x = none → A) ∧ (∀ y : Nat, x = some y → B y) := ⟨hn, hs⟩
theorem co_2 {P : Nat → Prop} (h0 : P 0) (h1 : P 1) {i : Nat} (hi : i < 2) : P i :=
  match i, hi with
  | 0, _ => h0
  | 1, _ => h1
theorem co_3 {P : Nat → Prop} (h0 : P 0) (h1 : P 1) (h2 : P 2) {i : Nat} (hi : i < 3) : P i :=
  match i, hi with
  | 0, _ => h0
  | 1, _ => h1
  | 2, _ => h2
theorem co_4 {P : Nat → Prop} (h0 : P 0) (h1 : P 1) (h2 : P 2) (h3 : P 3) {i : Nat} (hi : i < 4) : P i :=
  match i, hi with
  | 0, _ => h0
  | 1, _ => h1
  | 2, _ => h2
  | 3, _ => h3
theorem co_dec {N : Nat} {P : Nat → Prop} [DecidablePred P] (h : (List.range N).all (fun i => decide (P i)) = true) {i : Nat} (hi : i < N) : P i := by
  have := List.all_eq_true.mp h i (List.mem_range.mpr hi)
  exact of_decide_eq_true this
theorem co_tab {α : Type} {l : List α} {d : α} {P : α → Prop} (h : ∀ a, a ∈ l → P a) {i : Nat} (hi : i < l.length) : P (l.getD i d) := by
  rw [List.getD_eq_getElem?_getD, List.getElem?_eq_getElem hi]
  exact h _ (List.getElem_mem hi)
theorem pk_mu {x : Int32} {L : Nat} (h0 : ¬ x < 0) (h : ¬ nI L ≤ x) (hL : L < 2 ^ 31) : ∃ j : Nat, j < L ∧ x = nI j ∧ x + 1 = nI (j + 1) ∧ x.toNatClampNeg = j ∧ L - (x + 1).toNatClampNeg < L - x.toNatClampNeg := by
  obtain ⟨j, hj, rfl⟩ := nI_of h0
  have hl : j < L := Nat.not_le.mp fun q => h (nI_le q hj)
  refine ⟨j, hl, rfl, nI_1 j, nI_clamp hj, ?_⟩
  rw [nI_1, nI_clamp (by omega), nI_clamp hj]
  omega
theorem op_s {α : Type} {r : Option α} {A : Prop} {B : α → Prop} {y : α} (h : r = some y) (b : B y) : (r = none → A) ∧ ∀ z, r = some z → B z :=
  ⟨fun e => (by rw [h] at e; cases e), fun z e => (by rw [h] at e; cases e; exact b)⟩
def l_holds {α : Type} (a : Nat → Option Nat) (LP : List Nat) (p : Nat → α) (c : Nat) (b : Nat → α) : Prop :=
  ∀ j, j < c → ∃ y, a j = some y ∧ y ∈ LP ∧ p y = b j
theorem l_holds_0 {α : Type} {a : Nat → Option Nat} {LP : List Nat} {p b : Nat → α} : l_holds a LP p 0 b := fun j h => absurd h (Nat.not_lt_zero j)
theorem l_in_new (LP : List Nat) (q : Nat) : q ∈ LP ++ [q] := List.mem_append.mpr (Or.inr (List.mem_singleton.mpr rfl))
def l_sum (b : Nat → Int32) : Nat → Int32
  | 0 => 0
  | k + 1 => l_sum b k + b k
theorem sb_shr0 (x : Int32) : x >>> ((0 : Int32) &&& 31) = x := by
  rw [show ((0 : Int32) &&& 31) = 0 by decide]
  simp
theorem sb_shl0 (x : Int32) : x <<< ((0 : Int32) &&& 31) = x := by
  rw [show ((0 : Int32) &&& 31) = 0 by decide]
  simp
theorem sb_cl0 : (0 : Int32).toNatClampNeg = 0 := by decide
theorem sb_m1 {p : Nat} (h : 0 < p) : nI p + (-1) = nI (p - 1) := by
  obtain ⟨q, rfl⟩ : ∃ q, p = q + 1 := ⟨p - 1, by omega⟩
  exact pk_m1 q
def sb_b (c : Nat) : Int32 := (nI c).toInt8.toInt32
theorem sb_byte : ∀ c, c < 256 → sb_b c &&& 255 = nI c ∧ ((nI c).toUInt32 % 65536).toInt32 = nI c ∧ nI c ≤ 255 := by decide +kernel
def sb_Fit (a : Nat → Int32) : Prop := ∀ j, fits .byte (.int (a j)) = true
def sb_Lat (t : Nat → Nat) (n : Nat) (a : Nat → Int32) : Prop := ∀ j, j < n → t j < 256 ∧ a j = sb_b (t j)
theorem sb_fitB (c : Nat) : fits .byte (.int (sb_b c)) = true := pk_fb _
theorem sb_fit0 : sb_Fit (fun _ => 0) := fun _ => by
  show fits .byte (.int 0) = true
  decide
theorem sb_fitU {a : Nat → Int32} {k : Nat} {x : Int32} (h : sb_Fit a) (hx : fits .byte (.int x) = true) : sb_Fit (upd a k x) := by
  intro j
  by_cases e : j = k
  · subst e
    rw [pk_us]
    exact hx
  · rw [pk_un e]
    exact h j
def sb_cat (t : Nat → Nat) (n : Nat) (s : Nat → Nat) : Nat → Nat := fun j => if j < n then t j else s (j - n)
theorem sb_cat_lo {t s : Nat → Nat} {n j : Nat} (h : j < n) : sb_cat t n s j = t j := if_pos h
theorem sb_cat_hi {t s : Nat → Nat} {n j : Nat} : sb_cat t n s (n + j) = s j := by
  show (if n + j < n then t (n + j) else s (n + j - n)) = s j
  rw [if_neg (by omega), Nat.add_sub_cancel_left]
theorem sb_latPut {t s : Nat → Nat} {n w : Nat} {a a' : Nat → Int32} (h : sb_Lat t n a) (hk : ∀ j, j < n → a' j = a j) (hs : ∀ i, i < w → s i < 256 ∧ a' (n + i) = sb_b (s i)) : sb_Lat (sb_cat t n s) (n + w) a' := by
  intro j hj
  by_cases e : j < n
  · rw [sb_cat_lo e, hk j e]
    exact h j e
  · obtain ⟨i, rfl⟩ : ∃ i, j = n + i := ⟨j - n, by omega⟩
    rw [sb_cat_hi]
    exact hs i (by omega)
theorem sb_latKeep {t : Nat → Nat} {n : Nat} {a a' : Nat → Int32} (h : sb_Lat t n a) (hk : ∀ j, j < n → a' j = a j) : sb_Lat t n a' := fun j hj => by
  rw [hk j hj]
  exact h j hj
def sb_cap (q m : Nat) : Nat := if q ≤ m then m else if 2 * m + 2 < q then q else 2 * m + 2
def sb_Room (q m mc ms : Nat) : Prop := q ≤ m ∨ (1 ≤ mc ∧ sb_cap q m ≤ ms ∧ sb_cap q m ≤ 65536)
theorem sb_cap_ge (q m : Nat) : q ≤ sb_cap q m := by
  unfold sb_cap
  split
  · omega
  · split <;> omega
theorem sb_cap_gem (q m : Nat) : m ≤ sb_cap q m := by
  unfold sb_cap
  split
  · omega
  · split <;> omega
theorem sb_cap_le {q m mc ms : Nat} (hm : m ≤ 65536) (hr : sb_Room q m mc ms) : sb_cap q m ≤ 65536 := by
  rcases hr with h | h
  · rw [sb_cap, if_pos h]
    exact hm
  · exact h.2.2
theorem sb_at {P : Int32 → Prop} {x y : Int32} (e : x = y) (h : P y) : P x := e ▸ h
def sb_dg (w : Nat) : Nat := if w < 10 then 1 else if w < 100 then 2 else if w < 1000 then 3 else if w < 10000 then 4 else if w < 100000 then 5 else if w < 1000000 then 6 else if w < 10000000 then 7 else if w < 100000000 then 8 else if w < 1000000000 then 9 else 10
def sb_dec (v : Nat) : Nat → Nat := fun i => 48 + v / 10 ^ (sb_dg v - 1 - i) % 10
theorem sb_dg_in (w : Nat) : 1 ≤ sb_dg w ∧ sb_dg w ≤ 10 := by
  unfold sb_dg
  constructor <;> (repeat' split) <;> omega
theorem sb_dg100 {w : Nat} (h : 100 ≤ w) (hw : w < 2 ^ 31) : sb_dg w = sb_dg (w / 100) + 2 := by
  rw [sb_dg, sb_dg, if_neg (show ¬ w < 10 by omega), if_neg (show ¬ w < 100 by omega)]
  by_cases h3 : w < 1000
  · rw [if_pos h3, if_pos (show w / 100 < 10 by omega)]
  rw [if_neg h3, if_neg (show ¬ w / 100 < 10 by omega)]
  by_cases h4 : w < 10000
  · rw [if_pos h4, if_pos (show w / 100 < 100 by omega)]
  rw [if_neg h4, if_neg (show ¬ w / 100 < 100 by omega)]
  by_cases h5 : w < 100000
  · rw [if_pos h5, if_pos (show w / 100 < 1000 by omega)]
  rw [if_neg h5, if_neg (show ¬ w / 100 < 1000 by omega)]
  by_cases h6 : w < 1000000
  · rw [if_pos h6, if_pos (show w / 100 < 10000 by omega)]
  rw [if_neg h6, if_neg (show ¬ w / 100 < 10000 by omega)]
  by_cases h7 : w < 10000000
  · rw [if_pos h7, if_pos (show w / 100 < 100000 by omega)]
  rw [if_neg h7, if_neg (show ¬ w / 100 < 100000 by omega)]
  by_cases h8 : w < 100000000
  · rw [if_pos h8, if_pos (show w / 100 < 1000000 by omega)]
  rw [if_neg h8, if_neg (show ¬ w / 100 < 1000000 by omega)]
  by_cases h9 : w < 1000000000
  · rw [if_pos h9, if_pos (show w / 100 < 10000000 by omega)]
  rw [if_neg h9, if_neg (show ¬ w / 100 < 10000000 by omega)]
  rw [if_pos (show w / 100 < 100000000 by omega)]
theorem sb_negT {w : Nat} (h : w < 2 ^ 31) : (-nI w).toInt = -(w : Int) := by
  rw [Int32.toInt_neg, nI_toInt h]
  exact Int.bmod_eq_of_le (by omega) (by omega)
theorem sb_nle {a b : Nat} (ha : a < 2 ^ 31) (hb : b < 2 ^ 31) : -nI a ≤ -nI b ↔ b ≤ a := by
  rw [Int32.le_iff_toInt_le, sb_negT ha, sb_negT hb]
  omega
theorem sb_nlt {a b : Nat} (ha : a < 2 ^ 31) (hb : b < 2 ^ 31) : -nI a < -nI b ↔ b < a := by
  rw [Int32.lt_iff_toInt_lt, sb_negT ha, sb_negT hb]
  omega
theorem sb_cmp {A B : Prop} {x : Int32} (v c : Nat) (f : c ≤ v → A) (g : v < c → B) (hv : v < 2 ^ 31) (hx : x = -nI c := by rfl) (hc : c < 2 ^ 31 := by omega) : (-nI v ≤ x → A) ∧ (¬ -nI v ≤ x → B) := by
  subst hx
  rw [sb_nle hv hc]
  exact ⟨f, fun z => g (by omega)⟩
theorem sb_ndiv {w : Nat} (hw : w < 2 ^ 31) : (-nI w) / 100 = -nI (w / 100) := by
  apply Int32.toInt_inj.mp
  have h100 : (100 : Int32).toInt = 100 := by decide
  rw [Int32.toInt_div, sb_negT hw, h100, sb_negT (by omega), Int.neg_tdiv, Int.tdiv_eq_ediv_of_nonneg (by omega), Int.bmod_eq_of_le (by omega) (by omega)]
  omega
theorem sb_nrem {w : Nat} (hw : w < 2 ^ 31) : (-nI (w / 100)) * 100 - (-nI w) = nI (w % 100) := by
  have h := pk_rem (a := w) (d := 100) hw (by decide) (by decide)
  rw [pk_div hw (by decide) (by decide)] at h
  rw [← h]
  show (-nI (w / 100)) * nI 100 - (-nI w) = nI w - nI (w / 100) * nI 100
  rw [Int32.neg_mul, Int32.sub_neg, Int32.add_comm, ← Int32.sub_eq_add_neg]
end
section
/-! rows on bits, shifts and unsigned numbers, to paste: each family out of a closed proof of our own, whole with what it rests on; each by itself clean at Lean in its own claim (generation 39, form 5). Take a family whole -/
/-! ===== Int32 by its bits: bt x i ===== -/
def bt (x : Int32) (i : Nat) : Bool := x.toBitVec.getLsbD i
theorem b_ext {x y : Int32} (h : ∀ i, i < 32 → bt x i = bt y i) : x = y := Int32.toBitVec_inj.mp (BitVec.eq_of_getLsbD_eq (fun i hi => h i hi))
theorem b_or (x y : Int32) (i : Nat) : bt (x ||| y) i = (bt x i || bt y i) := by unfold bt; rw [Int32.toBitVec_or, BitVec.getLsbD_or]
theorem b_and (x y : Int32) (i : Nat) : bt (x &&& y) i = (bt x i && bt y i) := by unfold bt; rw [Int32.toBitVec_and, BitVec.getLsbD_and]
theorem b_xor (x y : Int32) (i : Nat) : bt (x ^^^ y) i = (bt x i ^^ bt y i) := by unfold bt; rw [Int32.toBitVec_xor, BitVec.getLsbD_xor]
theorem b_big {x : Int32} {i : Nat} (h : 32 ≤ i) : bt x i = false := BitVec.getLsbD_of_ge _ _ h
theorem b_255 (i : Nat) : bt 255 i = decide (i < 8) := by
  rcases Nat.lt_or_ge i 32 with h | h
  · exact (by decide +kernel : ∀ i, i < 32 → bt 255 i = decide (i < 8)) i h
  · rw [b_big h, decide_eq_false (by omega)]
theorem b_65535 (i : Nat) : bt 65535 i = decide (i < 16) := by
  rcases Nat.lt_or_ge i 32 with h | h
  · exact (by decide +kernel : ∀ i, i < 32 → bt 65535 i = decide (i < 16)) i h
  · rw [b_big h, decide_eq_false (by omega)]
theorem b_m1 : ∀ i, i < 32 → bt (-1) i = true := by decide +kernel
theorem b_0 (i : Nat) : bt 0 i = false := BitVec.getLsbD_zero
theorem s_l : ∀ n, n < 32 → ((nI n &&& 31).toBitVec.smod 32).toNat = n := by decide +kernel
theorem s_u : ∀ n, n < 32 → (((nI n).toUInt32 &&& Int32.toUInt32 31).toBitVec % 32).toNat = n := by decide +kernel
theorem b_shl (n : Nat) (hn : n < 32) (x : Int32) {i : Nat} (hi : i < 32) : bt (x <<< (nI n &&& 31)) i = (decide (n ≤ i) && bt x (i - n)) := by
  unfold bt
  rw [Int32.toBitVec_shiftLeft]
  show (x.toBitVec <<< ((nI n &&& 31).toBitVec.smod 32).toNat).getLsbD i = _
  rw [s_l n hn, BitVec.getLsbD_shiftLeft]
  rcases Nat.lt_or_ge i n with h | h
  · simp [h, Nat.not_le.mpr h]
  · simp [hi, h, Nat.not_lt.mpr h]
theorem b_ushr (n : Nat) (hn : n < 32) (x : Int32) (i : Nat) : bt ((x.toUInt32 >>> ((nI n).toUInt32 &&& Int32.toUInt32 31)).toInt32) i = bt x (n + i) := by
  show (x.toUInt32 >>> ((nI n).toUInt32 &&& Int32.toUInt32 31)).toBitVec.getLsbD i = x.toUInt32.toBitVec.getLsbD (n + i)
  rw [UInt32.toBitVec_shiftRight]
  show (x.toUInt32.toBitVec >>> (((nI n).toUInt32 &&& Int32.toUInt32 31).toBitVec % 32).toNat).getLsbD i = _
  rw [s_u n hn, BitVec.getLsbD_ushiftRight]
theorem b_sshr (n : Nat) (hn : n < 32) (x : Int32) {i : Nat} (hi : i < 32) : bt (x >>> (nI n &&& 31)) i = if n + i < 32 then bt x (n + i) else bt x 31 := by
  unfold bt
  rw [Int32.toBitVec_shiftRight]
  show (x.toBitVec.sshiftRight ((nI n &&& 31).toBitVec.smod 32).toNat).getLsbD i = _
  rw [s_l n hn, BitVec.getLsbD_sshiftRight, BitVec.msb_eq_getLsbD_last]
  simp [hi]
theorem b_shl8 (x : Int32) {i : Nat} (hi : i < 32) : bt (x <<< ((8 : Int32) &&& 31)) i = (decide (8 ≤ i) && bt x (i - 8)) := b_shl 8 (by omega) x hi
theorem b_shl16 (x : Int32) {i : Nat} (hi : i < 32) : bt (x <<< ((16 : Int32) &&& 31)) i = (decide (16 ≤ i) && bt x (i - 16)) := b_shl 16 (by omega) x hi
theorem b_shl24 (x : Int32) {i : Nat} (hi : i < 32) : bt (x <<< ((24 : Int32) &&& 31)) i = (decide (24 ≤ i) && bt x (i - 24)) := b_shl 24 (by omega) x hi
theorem b_sshr8 (x : Int32) {i : Nat} (hi : i < 32) : bt (x >>> ((8 : Int32) &&& 31)) i = if 8 + i < 32 then bt x (8 + i) else bt x 31 := b_sshr 8 (by omega) x hi
/-! ===== nI under and, xor, >>>, one bit, 65535 ===== -/
theorem nx_and (a b : Nat) : nI a &&& nI b = nI (a &&& b) := by
  apply Int32.toBitVec_inj.1
  show BitVec.ofNat 32 a &&& BitVec.ofNat 32 b = BitVec.ofNat 32 (a &&& b)
  apply BitVec.eq_of_getLsbD_eq
  intro i hi
  simp [hi]
theorem nx_xor (a b : Nat) : nI a ^^^ nI b = nI (a ^^^ b) := by
  apply Int32.toBitVec_inj.1
  show BitVec.ofNat 32 a ^^^ BitVec.ofNat 32 b = BitVec.ofNat 32 (a ^^^ b)
  apply BitVec.eq_of_getLsbD_eq
  intro i hi
  simp [hi]
theorem nx_cnt : ∀ j : Fin 32, (UInt32.ofNat j.val &&& Int32.toUInt32 31).toNat % 32 = j.val := by decide +kernel
theorem nx_ush {k j : Nat} (hk : k < 65536) (hj : j < 32) : ((nI k).toUInt32 >>> ((nI j).toUInt32 &&& Int32.toUInt32 31)).toInt32 = nI (k >>> j) := by
  have hs : k >>> j ≤ k := by
    rw [Nat.shiftRight_eq_div_pow]
    exact Nat.div_le_self _ _
  have e2 : UInt32.ofNat k >>> (UInt32.ofNat j &&& Int32.toUInt32 31) = UInt32.ofNat (k >>> j) := by
    apply UInt32.toNat_inj.1
    have h1 : (UInt32.ofNat k).toNat = k := Nat.mod_eq_of_lt (by omega)
    have h2 : (UInt32.ofNat (k >>> j)).toNat = k >>> j := Nat.mod_eq_of_lt (by omega)
    rw [UInt32.toNat_shiftRight, nx_cnt ⟨j, hj⟩, h1, h2]
  show (UInt32.ofNat k >>> (UInt32.ofNat j &&& Int32.toUInt32 31)).toInt32 = _
  rw [e2]
  rfl
theorem nx_bit {k j : Nat} (hk : k < 65536) (hj : j < 16) : (((nI k).toUInt32 >>> ((nI j).toUInt32 &&& Int32.toUInt32 31)).toInt32 &&& 1) = 0 ↔ k.testBit j = false := by
  rw [nx_ush hk (by omega)]
  show nI (k >>> j) &&& nI 1 = 0 ↔ _
  rw [nx_and, Nat.and_one_is_mod, ← nI_0, nI_eq (by omega) (by omega), Nat.testBit_eq_decide_div_mod_eq, Nat.shiftRight_eq_div_pow, decide_eq_false_iff_not]
  generalize k / 2 ^ j = z
  omega
theorem nx_mod (k : Nat) : nI k &&& 65535 = nI (k % 65536) := by
  show nI k &&& nI 65535 = _
  rw [nx_and, show (65535 : Nat) = 2 ^ 16 - 1 from rfl, Nat.and_two_pow_sub_one_eq_mod]
theorem nx_m16 {k : Nat} (h : k < 65536) : nI k &&& 65535 = nI k := by rw [nx_mod, Nat.mod_eq_of_lt h]
theorem nx_mask (x : Int32) : ∃ k, k < 65536 ∧ x &&& 65535 = nI k := by
  have e : x = nI x.toBitVec.toNat := by
    apply Int32.toBitVec_inj.1
    show x.toBitVec = BitVec.ofNat 32 x.toBitVec.toNat
    simp
  refine ⟨x.toBitVec.toNat % 65536, Nat.mod_lt _ (by omega), ?_⟩
  rw [← nx_mod, ← e]
/-! ===== Int32 as a set of bits: test, set ===== -/
def nf_M (m : Int32) : Nat := 4294967296 - m.toBitVec.toNat
theorem nf_sh : ∀ l, l < 32 → ((1 : Int32) <<< (nI l &&& 31)).toBitVec = BitVec.twoPow 32 l := by decide +kernel
theorem nf_sl : ∀ l, l < 32 → (((nI l).toUInt32 &&& Int32.toUInt32 31).toBitVec % 32).toNat = l := by decide +kernel
theorem nf_tp : ∀ l, l < 32 → BitVec.twoPow 32 l ≠ 0#32 := by decide +kernel
theorem nf_bit (m : Int32) (l : Nat) (hl : l < 32) : ((m.toUInt32 >>> ((nI l).toUInt32 &&& Int32.toUInt32 31)).toInt32 &&& 1) = 0 ↔ (m &&& ((1 : Int32) <<< (nI l &&& 31))) = 0 := by
  have e : ((m.toUInt32 >>> ((nI l).toUInt32 &&& Int32.toUInt32 31)).toInt32).toBitVec = m.toBitVec >>> l := by
    show m.toBitVec >>> (((nI l).toUInt32 &&& Int32.toUInt32 31).toBitVec % 32) = m.toBitVec >>> l
    rw [BitVec.ushiftRight_eq', nf_sl l hl]
  rw [← Int32.toBitVec_inj, ← Int32.toBitVec_inj, Int32.toBitVec_and, Int32.toBitVec_and, nf_sh l hl, e, BitVec.and_twoPow]
  show (m.toBitVec >>> l &&& 1#32) = 0#32 ↔ _ = 0#32
  rw [BitVec.and_one_eq_setWidth_ofBool_getLsbD, BitVec.getLsbD_ushiftRight, Nat.add_zero]
  cases hb : m.toBitVec.getLsbD l
  · exact ⟨fun _ => by simp, fun _ => by decide⟩
  · exact ⟨fun z => absurd z (by decide), fun z => absurd ((if_pos rfl).symm.trans z) (nf_tp l hl)⟩
theorem nf_gr (m k : Int32) (h : m &&& k = 0) (hk : k ≠ 0) : nf_M (m ||| k) < nf_M m := by
  have hm := m.toBitVec.isLt
  have hm' := (m ||| k).toBitVec.isLt
  have h1 : m.toBitVec.toNat ≤ (m ||| k).toBitVec.toNat := by
    rw [Int32.toBitVec_or, BitVec.toNat_or]
    exact Nat.left_le_or
  have h2 : m.toBitVec.toNat ≠ (m ||| k).toBitVec.toNat := by
    intro e
    have e2 : m = m ||| k := Int32.toBitVec_inj.mp (BitVec.eq_of_toNat_eq e)
    apply hk
    apply Int32.toBitVec_inj.mp
    show k.toBitVec = 0#32
    apply BitVec.eq_of_getLsbD_eq
    intro i hi
    have a : m.toBitVec.getLsbD i = (m.toBitVec.getLsbD i || k.toBitVec.getLsbD i) := by rw [← BitVec.getLsbD_or, ← Int32.toBitVec_or, ← e2]
    have b : (m.toBitVec.getLsbD i && k.toBitVec.getLsbD i) = false := by
      rw [← BitVec.getLsbD_and, ← Int32.toBitVec_and, h]
      exact BitVec.getLsbD_zero
    rw [BitVec.getLsbD_zero]
    revert a b
    cases m.toBitVec.getLsbD i <;> cases k.toBitVec.getLsbD i <;> simp
  unfold nf_M
  omega
/-! ===== a byte read unsigned ===== -/
theorem bp_b (x : Int32) : x.toInt8.toInt32 &&& 255 = x &&& 255 := by
  apply Int32.toBitVec_inj.mp
  rw [Int32.toBitVec_and, Int32.toBitVec_and, Int8.toBitVec_toInt32, Int32.toBitVec_toInt8]
  apply BitVec.eq_of_getLsbD_eq
  intro i hi
  rw [BitVec.getLsbD_and, BitVec.getLsbD_and]
  have hm : ∀ i < 32, 8 ≤ i → (255 : Int32).toBitVec.getLsbD i = false := by decide
  rcases Nat.lt_or_ge i 8 with z | z
  · rw [BitVec.getLsbD_signExtend, BitVec.getLsbD_signExtend, if_pos z, if_pos hi]
    simp only [z, hi, decide_true, Bool.true_and]
  · rw [hm i hi z]; simp
/-! ===== the char cast and 65535 ===== -/
theorem em_w (v : Int32) : ∃ w : Nat, w < 65536 ∧ (v.toUInt32 % 65536).toInt32 = nI w ∧ v &&& 65535 = nI w := by
  have hr := lw_u16_r v
  have h0 : (0 : Int32).toInt = 0 := by decide
  obtain ⟨w, h1, h2⟩ := nI_of (x := lw_u16 v) (by rw [Int32.lt_iff_toInt_lt]; omega)
  have h3 : (v.toUInt32 % 65536).toInt32 = nI w := h2
  rw [h2, nI_toInt h1] at hr
  exact ⟨w, by omega, h3, by rw [← lg_i2c_mask, ← lg_i2c_nf, h3]⟩
/-! ===== Int64 as a set of bits: test, set, clear ===== -/
theorem ts_nf {x : Bool} (h : ¬ x = false) : x = true := by cases x <;> first | rfl | exact absurd rfl h
theorem ts_nt {x : Bool} (h : ¬ x = true) : x = false := by cases x <;> first | rfl | exact absurd rfl h
theorem ts_bit {w : Int64} {s : UInt64} {j : Nat} (hj : j < 64) (hs : s.toNat = j) : ((w.toUInt64 >>> s).toInt64 &&& 1) = 0 ↔ w.toBitVec.getLsbD j = false := by
  have e : (w.toUInt64 >>> s).toInt64.toBitVec = w.toBitVec >>> j := by
    apply BitVec.eq_of_toNat_eq
    show (w.toUInt64 >>> s).toNat = _
    rw [UInt64.toNat_shiftRight, hs, Nat.mod_eq_of_lt hj, BitVec.toNat_ushiftRight]
    rfl
  rw [← Int64.toBitVec_inj, Int64.toBitVec_and, e]
  show w.toBitVec >>> j &&& 1#64 = 0#64 ↔ _
  constructor
  · intro h
    have t := congrArg (fun x => x.getLsbD 0) h
    simpa using t
  · intro h
    apply BitVec.eq_of_getLsbD_eq
    intro i hi
    cases i with
    | zero => simp [h]
    | succ i => simp
theorem ts_or {w m : Int64} {j : Nat} (hj : j < 64) (hm : m.toBitVec = BitVec.twoPow 64 j) : (w ||| m) = w ↔ w.toBitVec.getLsbD j = true := by
  rw [← Int64.toBitVec_inj, Int64.toBitVec_or, hm]
  constructor
  · intro h
    have t := congrArg (fun x => x.getLsbD j) h
    simp only [BitVec.getLsbD_or, BitVec.getLsbD_twoPow] at t
    simpa [hj] using t.symm
  · intro h
    apply BitVec.eq_of_getLsbD_eq
    intro i hi
    rw [BitVec.getLsbD_or, BitVec.getLsbD_twoPow]
    by_cases e : j = i
    · subst e; rw [h, Bool.true_or]
    · simp [e]
theorem ts_and {w m : Int64} {j : Nat} (hj : j < 64) (hm : m.toBitVec = BitVec.twoPow 64 j) : (w &&& (m ^^^ (-1))) = w ↔ w.toBitVec.getLsbD j = false := by
  have ha : (-1 : Int64).toBitVec = BitVec.allOnes 64 := by decide
  rw [← Int64.toBitVec_inj, Int64.toBitVec_and, Int64.toBitVec_xor, hm, ha]
  constructor
  · intro h
    have t := congrArg (fun x => x.getLsbD j) h
    simp only [BitVec.getLsbD_and, BitVec.getLsbD_xor, BitVec.getLsbD_twoPow, BitVec.getLsbD_allOnes] at t
    simpa [hj] using t.symm
  · intro h
    apply BitVec.eq_of_getLsbD_eq
    intro i hi
    rw [BitVec.getLsbD_and, BitVec.getLsbD_xor, BitVec.getLsbD_twoPow, BitVec.getLsbD_allOnes]
    by_cases e : j = i
    · subst e; rw [h, Bool.false_and]
    · simp [e, hi]
/-! ===== lN n to 2^64: shifts, and, or, masks, one bit ===== -/
theorem wb_tb (n : Nat) : (lN n).toBitVec = BitVec.ofNat 64 n := rfl
theorem wb_inj {a b : Int64} (h : a.toBitVec = b.toBitVec) : a = b := Int64.toBitVec_inj.mp h
theorem wb_tn {n : Nat} (h : n < 2 ^ 64) : (lN n).toBitVec.toNat = n := by rw [wb_tb, BitVec.toNat_ofNat, Nat.mod_eq_of_lt h]
theorem wb_of (x : Int64) : ∃ n, n < 2 ^ 64 ∧ x = lN n := ⟨x.toBitVec.toNat, x.toBitVec.isLt, wb_inj (by rw [wb_tb]; simp)⟩
theorem wb_of32 (x : Int32) : ∃ n, n < 2 ^ 32 ∧ x = nI n := ⟨x.toBitVec.toNat, x.toBitVec.isLt, Int32.toBitVec_inj.mp (by show _ = BitVec.ofNat 32 _; simp)⟩
theorem wb_c : ∀ k, k < 64 → ((nI k).toInt64 &&& 63) = lN k := by decide +kernel
theorem wb_cu : ∀ k, k < 64 → ((nI k).toInt64.toUInt64 &&& Int64.toUInt64 63) = UInt64.ofNat k := by decide +kernel
theorem wb_sm : ∀ k, k < 64 → (BitVec.ofNat 64 k).smod 64 = BitVec.ofNat 64 k := by decide +kernel
theorem wb_pw {a b : Nat} (h : a ≤ b) : 2 ^ b = 2 ^ a * 2 ^ (b - a) := by rw [← Nat.pow_add]; congr 1; omega
theorem wb_lt2 {a b : Nat} (h : a < b) : 2 ^ a < 2 ^ b := Nat.pow_lt_pow_right (by decide) h
theorem wb_mod (n : Nat) : lN n = lN (n % 2 ^ 64) := wb_inj (by rw [wb_tb, wb_tb]; apply BitVec.eq_of_toNat_eq; rw [BitVec.toNat_ofNat, BitVec.toNat_ofNat, Nat.mod_mod])
theorem wb_shr {n k : Nat} (hn : n < 2 ^ 64) (hk : k < 64) : ((lN n).toUInt64 >>> ((nI k).toInt64.toUInt64 &&& Int64.toUInt64 63)).toInt64 = lN (n / 2 ^ k) := by
  rw [wb_cu k hk]
  apply wb_inj
  apply BitVec.eq_of_toNat_eq
  show ((lN n).toUInt64 >>> UInt64.ofNat k).toNat = (BitVec.ofNat 64 _).toNat
  have h1 : (UInt64.ofNat k).toNat = k := by
    show (BitVec.ofNat 64 k).toNat = k
    rw [BitVec.toNat_ofNat, Nat.mod_eq_of_lt (by omega)]
  have h2 : (lN n).toUInt64.toNat = n := wb_tn hn
  rw [UInt64.toNat_shiftRight, h1, h2, Nat.mod_eq_of_lt hk, Nat.shiftRight_eq_div_pow, BitVec.toNat_ofNat, Nat.mod_eq_of_lt (Nat.lt_of_le_of_lt (Nat.div_le_self _ _) hn)]
theorem wb_shl (n : Nat) {k : Nat} (hk : k < 64) : lN n <<< ((nI k).toInt64 &&& 63) = lN (n * 2 ^ k) := by
  rw [wb_c k hk]
  apply wb_inj
  rw [Int64.toBitVec_shiftLeft, wb_tb, wb_tb, wb_tb, wb_sm k hk]
  apply BitVec.eq_of_toNat_eq
  rw [BitVec.shiftLeft_eq', BitVec.toNat_shiftLeft, BitVec.toNat_ofNat, BitVec.toNat_ofNat, BitVec.toNat_ofNat, Nat.mod_eq_of_lt (show k < 2 ^ 64 by omega), Nat.shiftLeft_eq, Nat.mul_mod, Nat.mod_mod, ← Nat.mul_mod]
theorem wb_and {a b : Nat} (ha : a < 2 ^ 64) (hb : b < 2 ^ 64) : lN a &&& lN b = lN (a &&& b) := by
  apply wb_inj
  rw [Int64.toBitVec_and, wb_tb, wb_tb, wb_tb]
  apply BitVec.eq_of_toNat_eq
  rw [BitVec.toNat_and, BitVec.toNat_ofNat, BitVec.toNat_ofNat, BitVec.toNat_ofNat, Nat.mod_eq_of_lt ha, Nat.mod_eq_of_lt hb, Nat.mod_eq_of_lt (Nat.and_lt_two_pow _ hb)]
theorem wb_or {a b : Nat} (ha : a < 2 ^ 64) (hb : b < 2 ^ 64) : lN a ||| lN b = lN (a ||| b) := by
  apply wb_inj
  rw [Int64.toBitVec_or, wb_tb, wb_tb, wb_tb]
  apply BitVec.eq_of_toNat_eq
  rw [BitVec.toNat_or, BitVec.toNat_ofNat, BitVec.toNat_ofNat, BitVec.toNat_ofNat, Nat.mod_eq_of_lt ha, Nat.mod_eq_of_lt hb, Nat.mod_eq_of_lt (Nat.or_lt_two_pow ha hb)]
theorem wb_mask {n k : Nat} (hn : n < 2 ^ 64) (hk : k < 64) : lN n &&& lN (2 ^ k - 1) = lN (n % 2 ^ k) := by
  rw [wb_and hn (by have := wb_lt2 hk; omega), Nat.and_two_pow_sub_one_eq_mod]
theorem wb_a1 {n : Nat} (hn : n < 2 ^ 64) : lN n &&& 1 = lN (n % 2) := wb_mask (k := 1) hn (by decide)
theorem wb_bit {n k : Nat} (hn : n < 2 ^ 64) (hk : k < 64) : ((lN n).toUInt64 >>> ((nI k).toInt64.toUInt64 &&& Int64.toUInt64 63)).toInt64 &&& 1 = lN (n / 2 ^ k % 2) := by
  rw [wb_shr hn hk, wb_a1 (Nat.lt_of_le_of_lt (Nat.div_le_self _ _) hn)]
theorem wb_xor {q k : Nat} (hk : k < 63) (h : 2 ^ k ≤ q) (h2 : q < 2 ^ (k + 1)) : lN q ^^^ lN (2 ^ k) = lN (q - 2 ^ k) := by
  obtain ⟨r, rfl⟩ : ∃ r, q = 2 ^ k + r := ⟨q - 2 ^ k, by omega⟩
  have hr : r < 2 ^ k := by rw [Nat.pow_succ] at h2; omega
  have hx : (2 ^ k + r) ^^^ 2 ^ k = r := by
    apply Nat.eq_of_testBit_eq
    intro i
    rw [Nat.testBit_xor, Nat.testBit_two_pow]
    rcases Nat.lt_trichotomy i k with h | h | h
    · rw [Nat.testBit_two_pow_add_gt h]
      simp [show ¬ k = i by omega]
    · subst h
      rw [Nat.testBit_two_pow_add_eq]
      simp
    · have a1 : 2 ^ (k + 1) ≤ 2 ^ i := Nat.pow_le_pow_right (by decide) h
      rw [Nat.testBit_lt_two_pow (show 2 ^ k + r < 2 ^ i by omega), Nat.testBit_lt_two_pow (show r < 2 ^ i by omega)]
      simp [show ¬ k = i by omega]
  have b1 := wb_lt2 (show k + 1 < 64 by omega)
  have b2 := wb_lt2 (show k < 64 by omega)
  apply wb_inj
  rw [Int64.toBitVec_xor, wb_tb, wb_tb, wb_tb]
  apply BitVec.eq_of_toNat_eq
  rw [BitVec.toNat_xor, BitVec.toNat_ofNat, BitVec.toNat_ofNat, BitVec.toNat_ofNat, Nat.mod_eq_of_lt (by omega : 2 ^ k + r < 2 ^ 64), Nat.mod_eq_of_lt b2, hx, Nat.add_sub_cancel_left, Nat.mod_eq_of_lt (by omega)]
/-! ===== lN: masks, 'or' of parts that don't overlap is a sum ===== -/
theorem u_tn {n : Nat} (h : n < 2 ^ 64) : (UInt64.ofNat n).toNat = n := Nat.mod_eq_of_lt h
theorem g_and {a b c : Nat} (ha : a < 2 ^ 64) (hb : b < 2 ^ 64) (hc : a &&& b = c) : lN a &&& lN b = lN c := by
  subst hc
  have h : UInt64.ofNat a &&& UInt64.ofNat b = UInt64.ofNat (a &&& b) := UInt64.toNat_inj.mp (by rw [UInt64.toNat_and, u_tn ha, u_tn hb, u_tn (Nat.and_lt_two_pow a hb)])
  have h2 := congrArg UInt64.toInt64 h
  exact h2
theorem g_and1 {a : Nat} (ha : a < 2 ^ 64) : lN a &&& 1 = lN (a % 2) := g_and (b := 1) ha (by decide) (Nat.and_two_pow_sub_one_eq_mod a 1)
theorem g_mask {a s p : Nat} (hp : 2 ^ s = p) (hs : s < 64) (ha : a < 2 ^ 64) : lN a &&& lN (p - 1) = lN (a % p) := by
  subst hp
  have := Nat.pow_lt_pow_right (show 1 < 2 by decide) hs
  exact g_and ha (by omega) (Nat.and_two_pow_sub_one_eq_mod a s)
theorem g_or {k p a b : Nat} (hp : 2 ^ k = p) (ha : a < p) (h : b * p + a < 2 ^ 64) : lN (b * p) ||| lN a = lN (b * p + a) := by
  subst hp
  have h1 : b * 2 ^ k ||| a = b * 2 ^ k + a := by rw [← Nat.shiftLeft_eq, Nat.shiftLeft_add_eq_or_of_lt ha]
  have h3 : UInt64.ofNat (b * 2 ^ k) ||| UInt64.ofNat a = UInt64.ofNat (b * 2 ^ k + a) := UInt64.toNat_inj.mp (by rw [UInt64.toNat_or, u_tn (by omega), u_tn (by omega), u_tn h, h1])
  have h2 := congrArg UInt64.toInt64 h3
  exact h2
theorem g_or' {k p a b : Nat} (hp : 2 ^ k = p) (ha : a < p) (h : a + b * p < 2 ^ 64) : lN a ||| lN (b * p) = lN (a + b * p) := by
  rw [Int64.or_comm, g_or hp ha (by omega), Nat.add_comm]
theorem g_ushr {a k p : Nat} {y : UInt64} (hy : y = UInt64.ofNat k) (hk : k < 64) (hp : 2 ^ k = p) (ha : a < 2 ^ 64) : ((lN a).toUInt64 >>> y).toInt64 = lN (a / p) := by
  subst hy hp
  have h : UInt64.ofNat a >>> UInt64.ofNat k = UInt64.ofNat (a / 2 ^ k) := UInt64.toNat_inj.mp (by rw [UInt64.toNat_shiftRight, u_tn ha, u_tn (by omega), u_tn (Nat.lt_of_le_of_lt (Nat.div_le_self _ _) ha), Nat.mod_eq_of_lt hk, Nat.shiftRight_eq_div_pow])
  have h2 := congrArg UInt64.toInt64 h
  exact h2
theorem g_shl {a k p : Nat} {y : Int64} (hy : y.toBitVec.smod 64 = BitVec.ofNat 64 k) (hk : k < 64) (hp : 2 ^ k = p) (ha : a < 2 ^ 64) : lN a <<< y = lN (a * p) := by
  subst hp
  apply Int64.toBitVec_inj.mp
  rw [Int64.toBitVec_shiftLeft, hy]
  apply BitVec.eq_of_toNat_eq
  have hb : (lN a).toBitVec.toNat = a := Nat.mod_eq_of_lt ha
  have hk' : (BitVec.ofNat 64 k).toNat = k := Nat.mod_eq_of_lt (by omega)
  have h : ((lN a).toBitVec <<< BitVec.ofNat 64 k).toNat = (a * 2 ^ k) % 2 ^ 64 := by simp only [BitVec.shiftLeft_eq', BitVec.toNat_shiftLeft, hb, hk', Nat.shiftLeft_eq]
  exact h
/-! ===== lN to 2^62 under >> and >>> ===== -/
theorem pf_lI {a : Nat} (h : a < 2 ^ 63) : (lN a).toInt = (a : Int) := lg_ofNat_toInt h
theorem pf_shr {a d : Nat} {D : Int64} (hD : (D.toBitVec.smod 64).toNat = d) (h : a < 2 ^ 62) : lN a >>> D = lN (a / 2 ^ d) := by
  have hd : a / 2 ^ d ≤ a := Nat.div_le_self _ _
  apply Int64.toInt_inj.mp
  have e : (lN a >>> D).toInt = (lN a).toInt >>> d := by
    rw [← hD]
    exact BitVec.toInt_sshiftRight ..
  rw [e, Int.shiftRight_eq_div_pow, pf_lI (by omega), pf_lI (by omega)]
  rfl
theorem pf_ushr {a d : Nat} {D : UInt64} (hD : D.toNat % 64 = d) (h : a < 2 ^ 62) : ((lN a).toUInt64 >>> D).toInt64 = lN (a / 2 ^ d) := by
  have hd : a / 2 ^ d ≤ a := Nat.div_le_self _ _
  have e : (lN a).toUInt64 >>> D = UInt64.ofNat (a / 2 ^ d) := UInt64.toNat_inj.mp (by
    rw [UInt64.toNat_shiftRight, hD, Nat.shiftRight_eq_div_pow, UInt64.toNat_ofNat']
    show (UInt64.ofNat a).toNat / 2 ^ d = _
    rw [UInt64.toNat_ofNat', Nat.mod_eq_of_lt (by omega), Nat.mod_eq_of_lt (by omega)])
  rw [e]
  rfl
theorem pf_andw (x : Int64) : ∃ m, m < 2 ^ 32 ∧ x &&& 4294967295 = lN m := ⟨x.toBitVec.toNat % 2 ^ 32, Nat.mod_lt _ (by decide), Int64.toBitVec_inj.mp (BitVec.eq_of_toNat_eq (by
  show (x.toBitVec &&& 4294967295#64).toNat = (BitVec.ofNat 64 (x.toBitVec.toNat % 2 ^ 32)).toNat
  rw [BitVec.toNat_and, show (4294967295#64).toNat = 2 ^ 32 - 1 from by decide, Nat.and_two_pow_sub_one_eq_mod, BitVec.toNat_ofNat]
  omega))⟩
/-! ===== Int64 as an unsigned number: uN x ===== -/
def uN (x : Int64) : Nat := x.toUInt64.toNat
theorem uN_lt (x : Int64) : uN x < 18446744073709551616 := x.toUInt64.toNat_lt
theorem uN_inj {x y : Int64} (h : uN x = uN y) : x = y := congrArg UInt64.toInt64 (UInt64.toNat_inj.mp h)
theorem uN_add (x y : Int64) : uN (x + y) = (uN x + uN y) % 18446744073709551616 := by
  show (x.toUInt64 + y.toUInt64).toNat = _
  exact UInt64.toNat_add _ _
theorem uN_mul (x y : Int64) : uN (x * y) = (uN x * uN y) % 18446744073709551616 := by
  show (x.toUInt64 * y.toUInt64).toNat = _
  exact UInt64.toNat_mul _ _
theorem uN_shl (x : Int64) : uN (x <<< ((1 : Int32).toInt64 &&& 63)) = (2 * uN x) % 18446744073709551616 := by
  have h : (((1 : Int32).toInt64 &&& 63).toBitVec.smod 64).toNat = 1 := by decide
  show (x.toBitVec <<< (((1 : Int32).toInt64 &&& 63).toBitVec.smod 64).toNat).toNat = _
  rw [h, BitVec.toNat_shiftLeft, Nat.shiftLeft_eq, Nat.mul_comm]
  rfl
theorem uN_shr (x : Int64) (s : UInt64) : uN (x.toUInt64 >>> s).toInt64 = uN x / 2 ^ (s.toNat % 64) := by
  show (x.toUInt64 >>> s).toNat = _
  rw [UInt64.toNat_shiftRight, Nat.shiftRight_eq_div_pow]
  rfl
theorem uN_s32 (x : Int64) : uN (x.toUInt64 >>> ((32 : Int32).toInt64.toUInt64 &&& Int64.toUInt64 63)).toInt64 = uN x / 4294967296 := by
  have h : ((32 : Int32).toInt64.toUInt64 &&& Int64.toUInt64 63).toNat % 64 = 32 := by decide
  rw [uN_shr, h]
theorem uN_s63 (x : Int64) : uN (x.toUInt64 >>> ((63 : Int32).toInt64.toUInt64 &&& Int64.toUInt64 63)).toInt64 = uN x / 9223372036854775808 := by
  have h : ((63 : Int32).toInt64.toUInt64 &&& Int64.toUInt64 63).toNat % 64 = 63 := by decide
  rw [uN_shr, h]
theorem uN_lo (x : Int64) : uN (x &&& 4294967295) = uN x % 4294967296 := by
  show (x.toUInt64 &&& Int64.toUInt64 4294967295).toNat = _
  rw [UInt64.toNat_and]
  exact Nat.and_two_pow_sub_one_eq_mod _ 32
theorem uN_bit (x : Int64) : (x &&& 1) = 0 ↔ uN x % 2 = 0 := by
  have h : uN (x &&& 1) = uN x % 2 := by
    show (x.toUInt64 &&& Int64.toUInt64 1).toNat = _
    rw [UInt64.toNat_and]
    exact Nat.and_two_pow_sub_one_eq_mod _ 1
  rw [← h]
  exact ⟨fun z => by rw [z]; rfl, fun z => uN_inj (z.trans rfl)⟩
theorem uN_or {x y : Int64} (hy : uN y < 2) : uN ((x <<< ((1 : Int32).toInt64 &&& 63)) ||| y) = (2 * uN x) % 18446744073709551616 + uN y := by
  have h1 : uN ((x <<< ((1 : Int32).toInt64 &&& 63)) ||| y) = uN (x <<< ((1 : Int32).toInt64 &&& 63)) ||| uN y := UInt64.toNat_or _ _
  have h2 : (2 * uN x) % 18446744073709551616 = 2 ^ 1 * (uN x % 9223372036854775808) := by omega
  rw [h1, uN_shl, h2]
  exact (Nat.two_pow_add_eq_or_of_lt (i := 1) hy _).symm
theorem nat_xor {a : Nat} (h : a < 18446744073709551616) : a ^^^ 2 ^ 63 = (a + 9223372036854775808) % 18446744073709551616 := by
  have h1 : (a ^^^ 2 ^ 63) % 2 ^ 63 = a % 2 ^ 63 := by rw [Nat.xor_mod_two_pow, Nat.mod_self, Nat.xor_zero]
  have h2 : (a ^^^ 2 ^ 63) / 2 ^ 63 = (a / 2 ^ 63) ^^^ 1 := by rw [Nat.xor_div_two_pow, Nat.div_self (Nat.two_pow_pos 63)]
  have h3 : a / 2 ^ 63 = 0 ∨ a / 2 ^ 63 = 1 := by omega
  generalize a ^^^ 2 ^ 63 = t at h1 h2
  rcases h3 with h3 | h3
  · rw [h3] at h2
    have h2 : t / 2 ^ 63 = 1 := h2
    omega
  · rw [h3] at h2
    have h2 : t / 2 ^ 63 = 0 := h2
    omega
theorem uN_xor (x : Int64) : uN (x ^^^ (-9223372036854775808)) = (uN x + 9223372036854775808) % 18446744073709551616 := by
  rw [← nat_xor (uN_lt x)]
  exact UInt64.toNat_xor _ _
theorem uN_int (x : Int64) : x.toInt = if 2 * uN x < 18446744073709551616 then (uN x : Int) else (uN x : Int) - 18446744073709551616 := BitVec.toInt_eq_toNat_cond _
theorem uN_le (x y : Int64) : (x ^^^ (-9223372036854775808)) ≤ (y ^^^ (-9223372036854775808)) ↔ uN x ≤ uN y := by
  have hx := uN_lt x
  have hy := uN_lt y
  rw [Int64.le_iff_toInt_le, uN_int, uN_int, uN_xor, uN_xor]
  omega
theorem uN_sk (x : Int64) {k : Nat} (hk : k < 64) : uN (x.toUInt64 >>> ((nI k).toInt64.toUInt64 &&& Int64.toUInt64 63)).toInt64 = uN x / 2 ^ k := by
  have h : ((nI k).toInt64.toUInt64 &&& Int64.toUInt64 63).toNat % 64 = k := by
    rw [nI_l (by omega), UInt64.toNat_and]
    have e : (lN k).toUInt64.toNat = k % 2 ^ 64 := rfl
    have e2 : (Int64.toUInt64 63).toNat = 2 ^ 6 - 1 := by decide
    rw [e, e2, Nat.and_two_pow_sub_one_eq_mod]
    omega
  rw [uN_shr, h]
/-! ===== unsigned comparison by xor with the least ===== -/
theorem lN_bv (n : Nat) : (lN n).toBitVec = BitVec.ofNat 64 n := rfl
theorem lN_nat {n : Nat} (h : n < 2 ^ 64) : (lN n).toBitVec.toNat = n := by rw [lN_bv, BitVec.toNat_ofNat]; exact Nat.mod_eq_of_lt h
theorem lN_xor (a b : Nat) : lN a ^^^ lN b = lN (a ^^^ b) := by
  apply Int64.toBitVec_inj.mp; rw [Int64.toBitVec_xor, lN_bv, lN_bv, lN_bv]; apply BitVec.eq_of_getLsbD_eq; intro i hi; simp [BitVec.getLsbD_ofNat, Nat.testBit_xor, hi]
theorem lN_ti {m : Nat} (h : m < 2 ^ 64) : (lN m).toInt = if m < 2 ^ 63 then (m : Int) else (m : Int) - 2 ^ 64 := by
  have c := BitVec.toInt_eq_toNat_cond (lN m).toBitVec
  rw [lN_nat h] at c
  show (lN m).toBitVec.toInt = _
  rw [c]
  split <;> split <;> omega
theorem xor63 {x : Nat} (h : x < 2 ^ 63) : x ^^^ 2 ^ 63 = 2 ^ 63 + x := by
  apply Nat.eq_of_testBit_eq
  intro i
  rw [Nat.testBit_xor, Nat.testBit_two_pow]
  rcases Nat.lt_trichotomy i 63 with z | z | z
  · rw [Nat.testBit_two_pow_add_gt z, decide_eq_false (by omega)]; simp
  · subst z; rw [Nat.testBit_two_pow_add_eq]; simp
  · have hp : 2 ^ 64 ≤ 2 ^ i := Nat.pow_le_pow_right (by decide) z
    rw [Nat.testBit_lt_two_pow (show x < 2 ^ i by omega), Nat.testBit_lt_two_pow (show 2 ^ 63 + x < 2 ^ i by omega), decide_eq_false (by omega)]; rfl
theorem xorS {a : Nat} (h : a < 2 ^ 64) : (lN a ^^^ (-9223372036854775808)).toInt = (a : Int) - 2 ^ 63 := by
  rw [show (-9223372036854775808 : Int64) = lN (2 ^ 63) from by decide +kernel, lN_xor]
  rcases Nat.lt_or_ge a (2 ^ 63) with z | z
  · rw [xor63 z, lN_ti (by omega), if_neg (by omega)]; omega
  · obtain ⟨x, rfl⟩ : ∃ x, a = 2 ^ 63 + x := ⟨a - 2 ^ 63, by omega⟩
    rw [← xor63 (by omega), Nat.xor_assoc, Nat.xor_self, Nat.xor_zero, lN_ti (by omega), if_pos (by omega), xor63 (by omega)]; omega
theorem ultL {a b : Nat} (ha : a < 2 ^ 64) (hb : b < 2 ^ 64) : ((lN b ^^^ (-9223372036854775808)) ≤ (lN a ^^^ (-9223372036854775808))) ↔ b ≤ a := by
  rw [Int64.le_iff_toInt_le, xorS ha, xorS hb]; omega
/-! ===== Int64 masks of n low bits ===== -/
theorem cr_bits (W U M : BitVec 64) : ((W &&& U) &&& (U &&& (M ^^^ BitVec.allOnes 64))) = 0#64 ↔ (W &&& U) &&& M = W &&& U := by
  constructor
  · intro h
    apply BitVec.eq_of_getLsbD_eq
    intro i hi
    have e := congrArg (fun x => BitVec.getLsbD x i) h
    simp only [BitVec.getLsbD_and, BitVec.getLsbD_xor, BitVec.getLsbD_allOnes, BitVec.getLsbD_zero, hi, decide_true] at e ⊢
    revert e
    cases W.getLsbD i <;> cases U.getLsbD i <;> cases M.getLsbD i <;> decide
  · intro h
    apply BitVec.eq_of_getLsbD_eq
    intro i hi
    have e := congrArg (fun x => BitVec.getLsbD x i) h
    simp only [BitVec.getLsbD_and, BitVec.getLsbD_xor, BitVec.getLsbD_allOnes, BitVec.getLsbD_zero, hi, decide_true] at e ⊢
    revert e
    cases W.getLsbD i <;> cases U.getLsbD i <;> cases M.getLsbD i <;> decide
theorem cr_mask (w U m : Int64) (n : Nat) (hm : m.toBitVec.toNat = 2 ^ n - 1) : ((w &&& U) &&& (U &&& (m ^^^ (-1)))) = 0 ↔ (w &&& U).toBitVec.toNat < 2 ^ n := by
  have e0 : (-1 : Int64).toBitVec = BitVec.allOnes 64 := by decide
  have z0 : (0 : Int64).toBitVec = 0#64 := by decide
  rw [← Int64.toBitVec_inj, z0, Int64.toBitVec_and, Int64.toBitVec_and, Int64.toBitVec_and, Int64.toBitVec_xor, e0, cr_bits]
  generalize w.toBitVec &&& U.toBitVec = T
  rw [← BitVec.toNat_inj, BitVec.toNat_and, hm, Nat.and_two_pow_sub_one_eq_mod]
  constructor
  · intro h
    have t := Nat.mod_lt T.toNat (Nat.two_pow_pos n)
    rw [h] at t
    exact t
  · exact Nat.mod_eq_of_lt
theorem cr_shr (t : Int64) (x : UInt64) (n : Nat) (hx : x.toNat % 64 = n) : (t.toUInt64 >>> x).toInt64 = 0 ↔ t.toBitVec.toNat < 2 ^ n := by
  rw [← Int64.toBitVec_inj, ← BitVec.toNat_inj]
  show (t.toUInt64 >>> x).toNat = 0 ↔ t.toUInt64.toNat < 2 ^ n
  rw [UInt64.toNat_shiftRight, hx, Nat.shiftRight_eq_div_pow]
  constructor
  · intro h
    have d : t.toUInt64.toNat / 2 ^ n < 1 := by
      rw [h]
      decide
    have e := (Nat.div_lt_iff_lt_mul (Nat.two_pow_pos n)).mp d
    rw [Nat.one_mul] at e
    exact e
  · exact Nat.div_eq_of_lt
theorem cr_amt (s : Int64) : ∃ n, n < 64 ∧ s &&& 63 = lN n ∧ (s.toUInt64 &&& Int64.toUInt64 63).toNat % 64 = n := by
  have e : (s.toUInt64 &&& Int64.toUInt64 63).toNat = s.toUInt64.toNat % 2 ^ 6 := by
    rw [UInt64.toNat_and, show (Int64.toUInt64 63).toNat = 2 ^ 6 - 1 from by decide, Nat.and_two_pow_sub_one_eq_mod]
  refine ⟨s.toUInt64.toNat % 2 ^ 6, by omega, ?_, by omega⟩
  rw [← Int64.toBitVec_inj, ← BitVec.toNat_inj]
  show (s.toUInt64 &&& Int64.toUInt64 63).toNat = (BitVec.ofNat 64 (s.toUInt64.toNat % 2 ^ 6)).toNat
  rw [e, BitVec.toNat_ofNat]
  omega
end
section
/-! counting, the least congruence, rings, trails (pure) -/
noncomputable def ct_b (P : Prop) : Nat := @ite Nat P (Classical.propDecidable P) 1 0
theorem ct_b1 {P : Prop} (h : P) : ct_b P = 1 := by unfold ct_b; rw [if_pos h]
theorem ct_b0 {P : Prop} (h : ¬ P) : ct_b P = 0 := by unfold ct_b; rw [if_neg h]
theorem ct_ble (P : Prop) : ct_b P ≤ 1 := by
  rcases Classical.em P with h | h
  · rw [ct_b1 h]; omega
  · rw [ct_b0 h]; omega
theorem ct_bm {P Q : Prop} (h : P → Q) : ct_b P ≤ ct_b Q := by
  rcases Classical.em P with hp | hp
  · rw [ct_b1 hp, ct_b1 (h hp)]; omega
  · rw [ct_b0 hp]; omega
noncomputable def ct_n (P : Nat → Prop) : Nat → Nat
  | 0 => 0
  | k + 1 => ct_n P k + ct_b (P k)
theorem ct_mono {P Q : Nat → Prop} : ∀ {N : Nat}, (∀ k, k < N → P k → Q k) → ct_n P N ≤ ct_n Q N
  | 0, _ => Nat.le_refl _
  | N + 1, h => by
    have a := ct_mono (P := P) (Q := Q) (N := N) (fun k hk => h k (by omega))
    have b := ct_bm (h N (by omega))
    simp only [ct_n]; omega
theorem ct_lt {P Q : Nat → Prop} {a : Nat} (hp : ¬ P a) (hq : Q a) : ∀ {N : Nat}, (∀ k, k < N → P k → Q k) → a < N → ct_n P N < ct_n Q N
  | 0, _, h => by omega
  | N + 1, h, ha => by
    simp only [ct_n]
    rcases Nat.lt_or_ge a N with z | z
    · have x := ct_lt hp hq (N := N) (fun k hk => h k (by omega)) z
      have b := ct_bm (h N (by omega))
      omega
    · have e : a = N := by omega
      subst e
      have x := ct_mono (P := P) (Q := Q) (N := a) (fun k hk => h k (by omega))
      rw [ct_b1 hq, ct_b0 hp]; omega
theorem ct_le (P : Nat → Prop) : ∀ N, ct_n P N ≤ N
  | 0 => Nat.le_refl _
  | N + 1 => by have := ct_le P N; have := ct_ble (P N); simp only [ct_n]; omega
theorem ct_eq {P Q : Nat → Prop} {N : Nat} (h : ∀ k, k < N → (P k ↔ Q k)) : ct_n P N = ct_n Q N :=
  Nat.le_antisymm (ct_mono fun k hk => (h k hk).mp) (ct_mono fun k hk => (h k hk).mpr)
theorem ct_add {P : Nat → Prop} {a : Nat} (hp : ¬ P a) : ∀ {N : Nat}, a < N → ct_n (fun k => P k ∨ k = a) N = ct_n P N + 1
  | 0, h => by omega
  | N + 1, h => by
    simp only [ct_n]
    rcases Nat.lt_or_ge a N with z | z
    · rw [ct_add hp z]
      have : ct_b (P N ∨ N = a) = ct_b (P N) := Nat.le_antisymm (ct_bm fun q => q.elim id (fun e => by omega)) (ct_bm Or.inl)
      omega
    · have e : a = N := by omega
      subst e
      have x : ct_n (fun k => P k ∨ k = a) a = ct_n P a := ct_eq fun k hk => ⟨fun q => q.elim id (fun e => by omega), Or.inl⟩
      rw [x, ct_b0 hp, ct_b1 (Or.inr rfl)]
theorem ct_zero {P : Nat → Prop} : ∀ {N : Nat}, ct_n P N = 0 ↔ ∀ k, k < N → ¬ P k
  | 0 => ⟨fun _ k hk => by omega, fun _ => rfl⟩
  | N + 1 => by
    have ih := ct_zero (P := P) (N := N)
    simp only [ct_n]
    constructor
    · intro h k hk hp
      rcases Nat.lt_or_ge k N with z | z
      · exact ih.mp (by omega) k z hp
      · have e : k = N := by omega
        subst e
        rw [ct_b1 hp] at h; omega
    · intro h
      rw [ih.mpr (fun k hk => h k (by omega)), ct_b0 (h N (by omega))]
theorem ct_full {P : Nat → Prop} {N : Nat} : ct_n P N = N ↔ ∀ k, k < N → P k := by
  constructor
  · induction N with
    | zero => intro _ k hk; omega
    | succ N ih =>
      intro h k hk
      simp only [ct_n] at h
      have l1 := ct_le P N
      have l2 := ct_ble (P N)
      rcases Nat.lt_or_ge k N with z | z
      · exact ih (by omega) k z
      · have e : k = N := by omega
        subst e
        rcases Classical.em (P k) with hp | hp
        · exact hp
        · rw [ct_b0 hp] at h; omega
  · intro h
    induction N with
    | zero => rfl
    | succ N ih => simp only [ct_n]; rw [ih (fun k hk => h k (by omega)), ct_b1 (h N (by omega))]
theorem ct_lim {P : Nat → Prop} {M : Nat} : ∀ {N : Nat}, M ≤ N → (∀ k, M ≤ k → k < N → ¬ P k) → ct_n P N = ct_n P M
  | 0, h, _ => by have e : M = 0 := by omega
                  rw [e]
  | N + 1, h, hp => by
    rcases Nat.lt_or_ge M (N + 1) with z | z
    · simp only [ct_n]
      rw [ct_lim (N := N) (by omega) (fun k h1 h2 => hp k h1 (by omega)), ct_b0 (hp N (by omega) (by omega))]
      rfl
    · have e : M = N + 1 := by omega
      rw [e]
theorem ct_inj {g : Nat → Nat} {M : Nat} {P : Nat → Prop} : ∀ {N : Nat} {Q : Nat → Prop}, (∀ i, i < N → P i → g i < M ∧ Q (g i)) → (∀ i j, i < N → j < N → P i → P j → g i = g j → i = j) → ct_n P N ≤ ct_n Q M
  | 0, _, _, _ => Nat.zero_le _
  | N + 1, Q, h, hi => by
    simp only [ct_n]
    rcases Classical.em (P N) with hp | hp
    · have a := ct_inj (N := N) (Q := fun j => Q j ∧ j ≠ g N) (fun i hn hpi => ⟨(h i (by omega) hpi).1, (h i (by omega) hpi).2, fun e => by
        have := hi i N (by omega) (by omega) hpi hp e
        omega⟩) (fun i j a b => hi i j (by omega) (by omega))
      have hN := h N (by omega) hp
      have b := ct_add (P := fun j => Q j ∧ j ≠ g N) (a := g N) (fun z => z.2 rfl) hN.1
      have d : ct_n (fun k => (Q k ∧ k ≠ g N) ∨ k = g N) M ≤ ct_n Q M := ct_mono fun k _ q => q.elim (fun z => z.1) (fun e => by rw [e]; exact hN.2)
      rw [ct_b1 hp]; omega
    · rw [ct_b0 hp]
      exact ct_inj (N := N) (fun i hn => h i (by omega)) (fun i j a b => hi i j (by omega) (by omega))
theorem ct_same {T : Nat} {c f : Nat → Nat} (hc : ∀ t, t < T → c t < T ∧ c (c t) = c t) (hf : ∀ t, t < T → f t < T ∧ f (f t) = f t) (h : ∀ t u, t < T → u < T → (c t = c u ↔ f t = f u)) : ct_n (fun t => c t = t) T = ct_n (fun t => f t = t) T := by
  apply Nat.le_antisymm
  · refine ct_inj (g := f) (fun i hi _ => hf i hi) (fun i j hi hj p q e => ?_)
    have := (h i j hi hj).mpr e
    rw [p, q] at this; exact this
  · refine ct_inj (g := c) (fun i hi _ => hc i hi) (fun i j hi hj p q e => ?_)
    have := (h i j hi hj).mp e
    rw [p, q] at this; exact this
/-- one class fewer -/
theorem ct_join {T : Nat} {c : Nat → Nat} {a b : Nat} (hb : b < T) (eb : c b = b) (hab : a ≠ b) (ea : c a = a) : ct_n (fun t => (if c t = b then a else c t) = t) T + 1 = ct_n (fun t => c t = t) T := by
  rw [← ct_add (P := fun t => (if c t = b then a else c t) = t) (a := b) (by rw [if_pos eb]; exact hab) hb]
  apply ct_eq
  intro k hk
  constructor
  · intro h
    rcases h with h | h
    · by_cases z : c k = b
      · rw [if_pos z] at h
        rw [← h] at z
        rw [ea] at z; exact absurd z hab
      · rw [if_neg z] at h; exact h
    · rw [h]; exact eb
  · intro h
    by_cases z : k = b
    · exact Or.inr z
    · left; rw [if_neg (by rw [h]; exact z)]; exact h

/-! the least congruence -/
def cc_G (T : Nat) (K F G : Nat → Nat) (Q : Nat → Nat → Prop) : Prop :=
  (∀ x, Q x x) ∧ (∀ x y, Q x y → Q y x) ∧ (∀ x y z, Q x y → Q y z → Q x z) ∧ (∀ u v, u < T → v < T → K u = K v → K u ≠ 0 → Q (F u) (F v) → (K u = 2 → Q (G u) (G v)) → Q u v)
def cc_C (T : Nat) (K F G : Nat → Nat) (E : Nat → Nat → Prop) (x y : Nat) : Prop :=
  ∀ Q : Nat → Nat → Prop, cc_G T K F G Q → (∀ a b, E a b → Q a b) → Q x y
section
variable {T : Nat} {K F G : Nat → Nat} {E E' : Nat → Nat → Prop}
theorem cc_rf (x : Nat) : cc_C T K F G E x x := fun _ h _ => h.1 x
theorem cc_sy {x y : Nat} (h : cc_C T K F G E x y) : cc_C T K F G E y x := fun Q hq he => hq.2.1 _ _ (h Q hq he)
theorem cc_tr {x y z : Nat} (h : cc_C T K F G E x y) (h2 : cc_C T K F G E y z) : cc_C T K F G E x z := fun Q hq he => hq.2.2.1 _ _ _ (h Q hq he) (h2 Q hq he)
theorem cc_cg {u v : Nat} (hu : u < T) (hv : v < T) (hk : K u = K v) (h0 : K u ≠ 0) (hf : cc_C T K F G E (F u) (F v)) (hg : K u = 2 → cc_C T K F G E (G u) (G v)) : cc_C T K F G E u v := fun Q hq he => hq.2.2.2 u v hu hv hk h0 (hf Q hq he) (fun z => hg z Q hq he)
theorem cc_in {x y : Nat} (h : E x y) : cc_C T K F G E x y := fun _ _ he => he _ _ h
theorem cc_self : cc_G T K F G (cc_C T K F G E) := ⟨cc_rf, fun _ _ => cc_sy, fun _ _ _ => cc_tr, fun _ _ a b c d e f => cc_cg a b c d e f⟩
theorem cc_le (h : ∀ x y, E x y → cc_C T K F G E' x y) {x y : Nat} (hc : cc_C T K F G E x y) : cc_C T K F G E' x y := hc _ cc_self h
theorem cc_mono (h : ∀ x y, E x y → E' x y) {x y : Nat} (hc : cc_C T K F G E x y) : cc_C T K F G E' x y := cc_le (fun x y e => cc_in (h x y e)) hc
end
/-! the equivalence of a class function and pairs that wait -/
def cc_V (Q : Nat → Nat → Prop) : Prop := (∀ x, Q x x) ∧ (∀ x y, Q x y → Q y x) ∧ (∀ x y z, Q x y → Q y z → Q x z)
def cc_E (T : Nat) (c : Nat → Nat) (L : List (Nat × Nat)) (x y : Nat) : Prop :=
  ∀ Q : Nat → Nat → Prop, cc_V Q → (∀ t u, t < T → u < T → c t = c u → Q t u) → (∀ p, p ∈ L → Q p.1 p.2) → Q x y
section
variable {T : Nat} {c c' : Nat → Nat} {L L' : List (Nat × Nat)}
theorem cc_Erf (x : Nat) : cc_E T c L x x := fun _ h _ _ => h.1 x
theorem cc_Esy {x y : Nat} (h : cc_E T c L x y) : cc_E T c L y x := fun Q a b d => a.2.1 _ _ (h Q a b d)
theorem cc_Etr {x y z : Nat} (h : cc_E T c L x y) (h2 : cc_E T c L y z) : cc_E T c L x z := fun Q a b d => a.2.2 _ _ _ (h Q a b d) (h2 Q a b d)
theorem cc_Ec {x y : Nat} (hx : x < T) (hy : y < T) (h : c x = c y) : cc_E T c L x y := fun _ _ b _ => b x y hx hy h
theorem cc_Ep {p : Nat × Nat} (h : p ∈ L) : cc_E T c L p.1 p.2 := fun _ _ _ d => d p h
theorem cc_Ele (h1 : ∀ t u, t < T → u < T → c t = c u → cc_E T c' L' t u) (h2 : ∀ p, p ∈ L → cc_E T c' L' p.1 p.2) {x y : Nat} (h : cc_E T c L x y) : cc_E T c' L' x y := h _ ⟨cc_Erf, fun _ _ => cc_Esy, fun _ _ _ => cc_Etr⟩ h1 h2
theorem cc_Enil {x y : Nat} (h : cc_E T c [] x y) (hx : x < T) (hy : y < T) : c x = c y := by
  have k := h (fun x y => x = y ∨ (x < T ∧ y < T ∧ c x = c y)) ⟨fun x => Or.inl rfl, fun x y q => q.elim (fun e => Or.inl e.symm) (fun e => Or.inr ⟨e.2.1, e.1, e.2.2.symm⟩), fun x y z q r => by
    rcases q with q | q
    · rw [q]; exact r
    · rcases r with r | r
      · rw [← r]; exact Or.inr q
      · exact Or.inr ⟨q.1, r.2.1, q.2.2.trans r.2.2⟩⟩ (fun t u ht hu e => Or.inr ⟨ht, hu, e⟩) (fun p hp => absurd hp List.not_mem_nil)
  rcases k with k | k
  · rw [k]
  · exact k.2.2
end
/-! rings -/
def rg_P (n : Nat → Nat) : List Nat → Nat → Nat → Prop
  | [], x, z => n x = z
  | y :: l, x, z => n x = y ∧ rg_P n l y z
theorem rg_app {n : Nat → Nat} {z y : Nat} {l2 : List Nat} (h2 : rg_P n l2 y z) : ∀ (l1 : List Nat) (x : Nat), rg_P n l1 x y → rg_P n (l1 ++ y :: l2) x z
  | [], _, h => ⟨h, h2⟩
  | w :: l1, _, h => ⟨h.1, rg_app h2 l1 w h.2⟩
theorem rg_congr {n n' : Nat → Nat} {z : Nat} : ∀ (l : List Nat) (x x' : Nat), rg_P n l x z → n' x' = n x → (∀ y, y ∈ l → n' y = n y) → rg_P n' l x' z
  | [], _, _, h, e, _ => e.trans h
  | w :: l, _, _, h, e, g => ⟨e.trans h.1, rg_congr l w w h.2 (g w List.mem_cons_self) (fun y hy => g y (List.mem_cons_of_mem _ hy))⟩
/-! trails -/
def tr_s (x : Int32) : Prop := x.toInt16.toInt32 = x
def tr_b : List (Nat × Int32) → (Nat → Int32) → (Nat → Int32)
  | [], s => s
  | p :: q, s => tr_b q (upd s p.1 p.2)
def tr_P (ta to : Nat → Int32) : List (Nat × Int32) → Prop
  | [] => True
  | p :: q => ta q.length = nI p.1 ∧ to q.length = p.2 ∧ p.1 < 816 ∧ tr_s p.2 ∧ tr_P ta to q
theorem tr_congr {ta to ta' to' : Nat → Int32} : ∀ {W : List (Nat × Int32)}, (∀ i, i < W.length → ta' i = ta i ∧ to' i = to i) → tr_P ta to W → tr_P ta' to' W
  | [], _, _ => trivial
  | p :: q, h, g => by
    have a := h q.length (by rw [List.length_cons]; omega)
    exact ⟨a.1.trans g.1, a.2.trans g.2.1, g.2.2.1, g.2.2.2.1, tr_congr (fun i hi => h i (by rw [List.length_cons]; omega)) g.2.2.2.2⟩
theorem tr_app {ta to : Nat → Int32} : ∀ {W V : List (Nat × Int32)}, tr_P ta to (W ++ V) → tr_P ta to V
  | [], _, h => h
  | _ :: W, _, h => tr_app (W := W) h.2.2.2.2
theorem tr_ap2 : ∀ {W V : List (Nat × Int32)} {s : Nat → Int32}, tr_b (W ++ V) s = tr_b V (tr_b W s)
  | [], _, _ => rfl
  | p :: W, V, s => tr_ap2 (W := W) (V := V) (s := upd s p.1 p.2)
theorem tr_uu {s : Nat → Int32} {k : Nat} {v : Int32} : upd (upd s k v) k (s k) = s := by
  funext j
  unfold upd
  by_cases h : j = k
  · rw [if_pos h, h]
  · rw [if_neg h, if_neg h]
/-- the trail W leads from st back to (W0, s0) -/
def tr_R (W0 : List (Nat × Int32)) (s0 : Nat → Int32) (W : List (Nat × Int32)) (st ta to : Nat → Int32) : Prop :=
  tr_P ta to W ∧ ∃ W1, W = W1 ++ W0 ∧ tr_b W1 st = s0
theorem tr_R0 {W : List (Nat × Int32)} {st ta to : Nat → Int32} (h : tr_P ta to W) : tr_R W st W st ta to := ⟨h, [], rfl, rfl⟩
theorem tr_push {W0 W : List (Nat × Int32)} {s0 st ta to : Nat → Int32} (h : tr_R W0 s0 W st ta to) {k : Nat} {v : Int32} (hk : k < 816) (hs : tr_s (st k)) : tr_R W0 s0 ((k, st k) :: W) (upd st k v) (upd ta W.length (nI k)) (upd to W.length (st k)) := by
  obtain ⟨h1, W1, e, r⟩ := h
  refine ⟨⟨pk_us, pk_us, hk, hs, tr_congr (fun i hi => ⟨pk_un (by omega), pk_un (by omega)⟩) h1⟩, (k, st k) :: W1, by rw [e]; rfl, ?_⟩
  show tr_b W1 (upd (upd st k v) k (st k)) = s0
  rw [tr_uu]; exact r
theorem tr_trans {W0 W1 W2 : List (Nat × Int32)} {s0 s1 s2 ta to ta1 to1 : Nat → Int32} (h1 : tr_R W0 s0 W1 s1 ta1 to1) (h2 : tr_R W1 s1 W2 s2 ta to) : tr_R W0 s0 W2 s2 ta to := by
  obtain ⟨_, V1, e1, r1⟩ := h1
  obtain ⟨p2, V2, e2, r2⟩ := h2
  exact ⟨p2, V2 ++ V1, by rw [e2, e1, List.append_assoc], by rw [tr_ap2, r2, r1]⟩
/-! pairs that wait -/
def pd_P (T : Nat) (pa pb : Nat → Int32) : List (Nat × Nat) → Prop
  | [] => True
  | p :: q => pa q.length = nI p.1 ∧ pb q.length = nI p.2 ∧ p.1 < T ∧ p.2 < T ∧ pd_P T pa pb q
theorem pd_congr {T : Nat} {pa pb pa' pb' : Nat → Int32} : ∀ {Q : List (Nat × Nat)}, (∀ i, i < Q.length → pa' i = pa i ∧ pb' i = pb i) → pd_P T pa pb Q → pd_P T pa' pb' Q
  | [], _, _ => trivial
  | p :: q, h, g => by
    have a := h q.length (by rw [List.length_cons]; omega)
    exact ⟨a.1.trans g.1, a.2.trans g.2.1, g.2.2.1, g.2.2.2.1, pd_congr (fun i hi => h i (by rw [List.length_cons]; omega)) g.2.2.2.2⟩
theorem pd_push {T : Nat} {pa pb : Nat → Int32} {Q : List (Nat × Nat)} (h : pd_P T pa pb Q) {x y : Nat} (hx : x < T) (hy : y < T) : pd_P T (upd pa Q.length (nI x)) (upd pb Q.length (nI y)) ((x, y) :: Q) :=
  ⟨pk_us, pk_us, hx, hy, pd_congr (fun i hi => ⟨pk_un (by omega), pk_un (by omega)⟩) h⟩
end
section
/-! the engine's invariant (pure) -/
def en_W (T : Nat) (K F G : Nat → Nat) : Prop := T ≤ 16 ∧ ∀ u, u < T → K u < 4 ∧ (K u ≠ 0 → F u < u) ∧ (K u = 2 → G u < u)
def en_S (st : Nat → Int32) : Prop := ∀ j, j < 816 → tr_s (st j)
def en_C (T : Nat) (c n : Nat → Nat) (st : Nat → Int32) : Prop := ∀ t, t < T → st t = nI (c t) ∧ st (16 + t) = nI (n t) ∧ c t < T ∧ c (c t) = c t ∧ n t < T
def en_R (T : Nat) (c n : Nat → Nat) : Prop := ∀ r, r < T → c r = r → ∃ l : List Nat, rg_P n l r r ∧ (r :: l).Nodup ∧ ∀ t, t ∈ r :: l ↔ (t < T ∧ c t = r)
def en_us (T : Nat) (K F G c : Nat → Nat) (r u : Nat) : Prop := u < T ∧ K u ≠ 0 ∧ (c (F u) = r ∨ (K u = 2 ∧ c (G u) = r))
def en_U (T : Nat) (K F G c : Nat → Nat) (st : Nat → Int32) : Prop := ∀ r, r < T → c r = r → ∀ u, u < 16 → (bt (st (32 + r)) u = true ↔ en_us T K F G c r u)
def en_k (K F G c : Nat → Nat) (u : Nat) : Nat := 48 + 256 * (K u - 1) + 16 * c (F u) + (if K u = 2 then c (G u) else 0)
def en_A (T : Nat) (K F G c : Nat → Nat) (st : Nat → Int32) : Prop := ∀ k a b, 1 ≤ k → k < 4 → a < T → c a = a → b < 16 → (k = 2 → b < T ∧ c b = b) → (k ≠ 2 → b = 0) → st (48 + 256 * (k - 1) + 16 * a + b) = -1 ∨ ∃ w, w < T ∧ st (48 + 256 * (k - 1) + 16 * a + b) = nI w ∧ K w = k ∧ c (F w) = a ∧ (k = 2 → c (G w) = b)
def en_B (T : Nat) (K F G : Nat → Nat) (X : Nat → Prop) (c : Nat → Nat) (L : List (Nat × Nat)) (st : Nat → Int32) : Prop := ∀ u, u < T → K u ≠ 0 → ¬ X u → ∃ w, w < T ∧ st (en_k K F G c u) = nI w ∧ cc_E T c L w u
def en_L (T : Nat) (K F G : Nat → Nat) (E : Nat → Nat → Prop) (c : Nat → Nat) (L : List (Nat × Nat)) : Prop := (∀ t u, t < T → u < T → c t = c u → cc_C T K F G E t u) ∧ (∀ p, p ∈ L → cc_C T K F G E p.1 p.2) ∧ (∀ x y, E x y → cc_E T c L x y)
def en_M (T : Nat) (K F G : Nat → Nat) (X : Nat → Prop) (E : Nat → Nat → Prop) (c n : Nat → Nat) (L : List (Nat × Nat)) (st : Nat → Int32) : Prop :=
  en_S st ∧ en_C T c n st ∧ en_R T c n ∧ en_U T K F G c st ∧ en_A T K F G c st ∧ en_B T K F G X c L st ∧ en_L T K F G E c L
theorem tr_sn : ∀ t, t < 816 → tr_s (nI t) := (by decide +kernel : ∀ t, t < 816 → (nI t).toInt16.toInt32 = nI t)
theorem en_nm {w : Nat} (h : w < 816) : ¬ nI w = -1 := fun e => by
  have a := nI_pos (n := w) (by omega)
  rw [e] at a
  exact a (by decide)
section
variable {T : Nat} {K F G c n : Nat → Nat} {E : Nat → Nat → Prop} {L : List (Nat × Nat)} {st : Nat → Int32} {X : Nat → Prop}
theorem cc_orV : cc_V (fun x y => x = y ∨ (x < T ∧ y < T ∧ c x = c y)) := ⟨fun x => Or.inl rfl, fun x y q => q.elim (fun e => Or.inl e.symm) (fun e => Or.inr ⟨e.2.1, e.1, e.2.2.symm⟩), fun x y z q r => by
    rcases q with q | q
    · rw [q]; exact r
    · rcases r with r | r
      · rw [← r]; exact Or.inr q
      · exact Or.inr ⟨q.1, r.2.1, q.2.2.trans r.2.2⟩⟩
theorem en_done (hw : en_W T K F G) (hE : ∀ x y, E x y → x < T ∧ y < T) (h : en_M T K F G (fun _ => False) E c n [] st) {t u : Nat} (ht : t < T) (hu : u < T) : c t = c u ↔ cc_C T K F G E t u := by
  obtain ⟨hS, hC, hR, hU, hA, hB, hL1, hL2, hL3⟩ := h
  constructor
  · exact hL1 t u ht hu
  · intro hc
    have hV := cc_orV (T := T) (c := c)
    have k := hc (fun x y => x = y ∨ (x < T ∧ y < T ∧ c x = c y)) ⟨hV.1, hV.2.1, hV.2.2, ?_⟩ (fun x y e => Or.inr ⟨(hE x y e).1, (hE x y e).2, cc_Enil (hL3 x y e) (hE x y e).1 (hE x y e).2⟩)
    · rcases k with k | k
      · rw [k]
      · exact k.2.2
    · intro u v hu hv hk h0 hf hg
      have ef : c (F u) = c (F v) := hf.elim (fun e => by rw [e]) (fun e => e.2.2)
      have ek : en_k K F G c u = en_k K F G c v := by
        unfold en_k
        rw [hk, ef]
        by_cases z : K v = 2
        · rw [if_pos z, if_pos z, (hg (hk.trans z)).elim (congrArg c) (fun e => e.2.2)]
        · rw [if_neg z, if_neg z]
      obtain ⟨w, w1, w2, w3⟩ := hB u hu h0 (fun z => z)
      obtain ⟨w', v1, v2, v3⟩ := hB v hv (fun z => h0 (hk.trans z)) (fun z => z)
      rw [ek] at w2
      have hT := hw.1
      have e := (nI_eq (a := w) (b := w') (by omega) (by omega)).mp (w2.symm.trans v2)
      subst e
      exact Or.inr ⟨hu, hv, cc_Enil (cc_Etr (cc_Esy w3) v3) hu hv⟩
theorem en_cF (hw : en_W T K F G) (hC : en_C T c n st) {u : Nat} (hu : u < T) (h0 : K u ≠ 0) : F u < T ∧ c (F u) < T ∧ c (c (F u)) = c (F u) ∧ st (F u) = nI (c (F u)) := by
  have a := (hw.2 u hu).2.1 h0
  have b := hC (F u) (by omega)
  exact ⟨by omega, b.2.2.1, b.2.2.2.1, b.1⟩
theorem en_cG (hw : en_W T K F G) (hC : en_C T c n st) {u : Nat} (hu : u < T) (h0 : K u = 2) : G u < T ∧ c (G u) < T ∧ c (c (G u)) = c (G u) ∧ st (G u) = nI (c (G u)) := by
  have a := (hw.2 u hu).2.2 h0
  have b := hC (G u) (by omega)
  exact ⟨by omega, b.2.2.1, b.2.2.2.1, b.1⟩
theorem en_kb (hw : en_W T K F G) (hC : en_C T c n st) {u : Nat} (hu : u < T) (h0 : K u ≠ 0) : 48 ≤ en_k K F G c u ∧ en_k K F G c u < 816 := by
  have a := en_cF hw hC hu h0
  have d := (hw.2 u hu).1
  have hT := hw.1
  unfold en_k
  by_cases z : K u = 2
  · have b := en_cG hw hC hu z
    rw [if_pos z]; omega
  · rw [if_neg z]; omega
theorem en_Au (hw : en_W T K F G) (hC : en_C T c n st) (hA : en_A T K F G c st) {u : Nat} (hu : u < T) (h0 : K u ≠ 0) : st (en_k K F G c u) = -1 ∨ ∃ w, w < T ∧ st (en_k K F G c u) = nI w ∧ K w = K u ∧ c (F w) = c (F u) ∧ (K u = 2 → c (G w) = c (G u)) := by
  have a := en_cF hw hC hu h0
  have d := (hw.2 u hu).1
  have hT := hw.1
  unfold en_k
  by_cases z : K u = 2
  · have b := en_cG hw hC hu z
    have q := hA (K u) (c (F u)) (c (G u)) (by omega) d a.2.1 a.2.2.1 (by omega) (fun _ => ⟨b.2.1, b.2.2.1⟩) (fun y => absurd z y)
    rw [if_pos z]; exact q
  · have q := hA (K u) (c (F u)) 0 (by omega) d a.2.1 a.2.2.1 (by omega) (fun y => absurd y z) (fun _ => rfl)
    rw [if_neg z]
    rcases q with q | ⟨w, q1, q2, q3, q4, _⟩
    · exact Or.inl q
    · exact Or.inr ⟨w, q1, q2, q3, q4, fun y => absurd y z⟩
/-- the key tells kind and classes -/
theorem en_ki (hw : en_W T K F G) (hC : en_C T c n st) {u : Nat} (hu : u < T) (h0 : K u ≠ 0) {k a b : Nat} (k1 : 1 ≤ k) (k4 : k < 4) (ha : a < T) (hb : b < 16) (h2 : k ≠ 2 → b = 0) (e : 48 + 256 * (k - 1) + 16 * a + b = en_k K F G c u) : K u = k ∧ c (F u) = a ∧ (k = 2 → c (G u) = b) := by
  have d := en_cF hw hC hu h0
  have d' := (hw.2 u hu).1
  have hT := hw.1
  unfold en_k at e
  by_cases z : K u = 2
  · have g := en_cG hw hC hu z
    rw [if_pos z] at e
    refine ⟨by omega, by omega, fun _ => by omega⟩
  · rw [if_neg z] at e
    refine ⟨by omega, by omega, fun y => ?_⟩
    exfalso; omega
/-- a look that stores -/
theorem en_look1 (hw : en_W T K F G) (h : en_M T K F G X E c n L st) {t : Nat} (ht : t < T) (h0 : K t ≠ 0) (hm : st (en_k K F G c t) = -1) : en_M T K F G (fun u => X u ∧ u ≠ t) E c n L (upd st (en_k K F G c t) (nI t)) := by
  obtain ⟨hS, hC, hR, hU, hA, hB, hL⟩ := h
  have kb := en_kb hw hC ht h0
  have hT := hw.1
  refine ⟨?_, ?_, hR, ?_, ?_, ?_, hL⟩
  · intro j hj
    by_cases z : j = en_k K F G c t
    · rw [z, pk_us]; exact tr_sn t (by omega)
    · rw [pk_un z]; exact hS j hj
  · intro u hu
    rw [pk_un (by omega), pk_un (by omega)]; exact hC u hu
  · intro r hr er u hu
    rw [pk_un (by omega)]; exact hU r hr er u hu
  · intro k a b k1 k4 ha ea hb hb2 hb3
    by_cases z : 48 + 256 * (k - 1) + 16 * a + b = en_k K F G c t
    · have q := en_ki hw hC ht h0 k1 k4 ha hb hb3 z
      rw [z, pk_us]
      exact Or.inr ⟨t, ht, rfl, q.1, q.2.1, q.2.2⟩
    · rw [pk_un z]; exact hA k a b k1 k4 ha ea hb hb2 hb3
  · intro u hu hk hx
    by_cases z : u = t
    · rw [z, pk_us]; exact ⟨t, ht, rfl, cc_Erf t⟩
    · obtain ⟨w, w1, w2, w3⟩ := hB u hu hk (fun y => hx ⟨y, z⟩)
      have y : en_k K F G c u ≠ en_k K F G c t := fun y => by
        rw [y, hm] at w2
        exact en_nm (w := w) (by omega) w2.symm
      rw [pk_un y]; exact ⟨w, w1, w2, w3⟩
/-- a look that finds an equal one -/
theorem en_look2 (h : en_M T K F G X E c n L st) {t w : Nat} (ht : t < T) (hw : w < T) (hm : st (en_k K F G c t) = nI w) (e : c w = c t) : en_M T K F G (fun u => X u ∧ u ≠ t) E c n L st := by
  obtain ⟨hS, hC, hR, hU, hA, hB, hL⟩ := h
  refine ⟨hS, hC, hR, hU, hA, ?_, hL⟩
  intro u hu hk hx
  by_cases z : u = t
  · rw [z]; exact ⟨w, hw, hm, cc_Ec hw ht e⟩
  · exact hB u hu hk (fun y => hx ⟨y, z⟩)
/-- a look that finds another -/
theorem en_look3 (hW : en_W T K F G) (h : en_M T K F G X E c n L st) {t w : Nat} (ht : t < T) (h0 : K t ≠ 0) (hw : w < T) (hm : st (en_k K F G c t) = nI w) (e1 : K w = K t) (e2 : c (F w) = c (F t)) (e3 : K t = 2 → c (G w) = c (G t)) : en_M T K F G (fun u => X u ∧ u ≠ t) E c n ((w, t) :: L) st := by
  obtain ⟨hS, hC, hR, hU, hA, hB, hL1, hL2, hL3⟩ := h
  have up : ∀ {x y : Nat}, cc_E T c L x y → cc_E T c ((w, t) :: L) x y := fun h => cc_Ele (fun t u a b d => cc_Ec a b d) (fun p hp => cc_Ep (List.mem_cons_of_mem _ hp)) h
  refine ⟨hS, hC, hR, hU, hA, ?_, hL1, ?_, fun x y e => up (hL3 x y e)⟩
  · intro u hu hk hx
    by_cases z : u = t
    · rw [z]; exact ⟨w, hw, hm, cc_Ep (p := (w, t)) List.mem_cons_self⟩
    · obtain ⟨v, v1, v2, v3⟩ := hB u hu hk (fun y => hx ⟨y, z⟩)
      exact ⟨v, v1, v2, up v3⟩
  · intro p hp
    rcases List.mem_cons.mp hp with z | z
    · rw [z]
      exact cc_cg hw ht e1 (fun y => h0 (e1.symm.trans y)) (hL1 _ _ (en_cF hW hC hw (fun y => h0 (e1.symm.trans y))).1 (en_cF hW hC ht h0).1 e2) (fun y => hL1 _ _ (en_cG hW hC hw y).1 (en_cG hW hC ht (e1.symm.trans y)).1 (e3 (e1.symm.trans y)))
    · exact hL2 p z
theorem en_c1 {a b z r : Nat} (hr : r ≠ a) (hb : r ≠ b) : ((if c z = b then a else c z) = r) ↔ c z = r := by
  by_cases y : c z = b
  · rw [if_pos y]; exact ⟨fun e => absurd e.symm hr, fun e => absurd (e.symm.trans y) hb⟩
  · rw [if_neg y]
theorem en_c2 {a b z : Nat} : ((if c z = b then a else c z) = a) ↔ (c z = a ∨ c z = b) := by
  by_cases y : c z = b
  · rw [if_pos y]; exact ⟨fun _ => Or.inr y, fun _ => rfl⟩
  · rw [if_neg y]; exact ⟨Or.inl, fun q => q.elim id (fun w => absurd w y)⟩
/-- the class b comes to class a -/
theorem en_merge (hW : en_W T K F G) {x y : Nat} (h : en_M T K F G (fun _ => False) E c n ((x, y) :: L) st) (hx : x < T) (hy : y < T) {a b : Nat} (ea : c x = a) (eb : c y = b) (hab : a ≠ b) {st' : Nat → Int32}
    (h1 : ∀ t, t < T → st' t = nI (if c t = b then a else c t))
    (h2 : ∀ t, t < T → st' (16 + t) = nI (if t = a then n b else if t = b then n a else n t))
    (h3 : ∀ r, r < T → r ≠ a → st' (32 + r) = st (32 + r))
    (h4 : ∀ u, u < 16 → bt (st' (32 + a)) u = (bt (st (32 + a)) u || bt (st (32 + b)) u))
    (h5 : ∀ j, 48 ≤ j → j < 816 → st' j = st j)
    (hS' : en_S st') : en_M T K F G (fun u => en_us T K F G c b u) E (fun t => if c t = b then a else c t) (fun t => if t = a then n b else if t = b then n a else n t) L st' := by
  obtain ⟨hS, hC, hR, hU, hA, hB, hL1, hL2, hL3⟩ := h
  have hT := hW.1
  have haT : a < T := by rw [← ea]; exact (hC x hx).2.2.1
  have hbT : b < T := by rw [← eb]; exact (hC y hy).2.2.1
  have ca : c a = a := by rw [← ea]; exact (hC x hx).2.2.2.1
  have cb : c b = b := by rw [← eb]; exact (hC y hy).2.2.2.1
  have hba : b ≠ a := fun e => hab e.symm
  have up : ∀ {p q : Nat}, cc_E T c ((x, y) :: L) p q → cc_E T (fun t => if c t = b then a else c t) L p q := fun h => cc_Ele (fun t u ht hu e => cc_Ec ht hu (by show (if c t = b then a else c t) = (if c u = b then a else c u); rw [e])) (fun p hp => by
    rcases List.mem_cons.mp hp with z | z
    · rw [z]; refine cc_Ec hx hy ?_
      show (if c x = b then a else c x) = (if c y = b then a else c y)
      rw [ea, eb, if_neg hab, if_pos rfl]
    · exact cc_Ep z) h
  have rep : ∀ r, r < T → (if c r = b then a else c r) = r → c r = r ∧ r ≠ b := fun r hr e => by
    by_cases z : c r = b
    · rw [if_pos z] at e
      rw [← e, ca] at z; exact absurd z hab
    · rw [if_neg z] at e
      exact ⟨e, fun q => z (by rw [q]; exact cb)⟩
  refine ⟨hS', ?_, ?_, ?_, ?_, ?_, ?_, ?_, ?_⟩
  · intro t ht
    have q := hC t ht
    refine ⟨h1 t ht, h2 t ht, ?_, ?_, ?_⟩
    · show (if c t = b then a else c t) < T
      split
      · exact haT
      · exact q.2.2.1
    · show (if c (if c t = b then a else c t) = b then a else c (if c t = b then a else c t)) = (if c t = b then a else c t)
      by_cases z : c t = b
      · rw [if_pos z, ca, if_neg hab]
      · rw [if_neg z, q.2.2.2.1, if_neg z]
    · show (if t = a then n b else if t = b then n a else n t) < T
      split
      · exact (hC b hbT).2.2.2.2
      · split
        · exact (hC a haT).2.2.2.2
        · exact q.2.2.2.2
  · intro r hr er
    have er' : (if c r = b then a else c r) = r := er
    obtain ⟨cr, rb⟩ := rep r hr er'
    by_cases z : r = a
    · subst z
      obtain ⟨la, pa, na, ma⟩ := hR r haT ca
      obtain ⟨lb, pb, nb, mb⟩ := hR b hbT cb
      rw [List.nodup_cons] at na nb
      have ia : ∀ t, t ∈ la → t ≠ r ∧ t ≠ b ∧ t < T ∧ c t = r := fun t ht => by
        have q := (ma t).mp (List.mem_cons_of_mem _ ht)
        exact ⟨fun e => na.1 (by rw [← e]; exact ht), fun e => hab (by rw [← q.2, e, cb]), q.1, q.2⟩
      have ib : ∀ t, t ∈ lb → t ≠ r ∧ t ≠ b ∧ t < T ∧ c t = b := fun t ht => by
        have q := (mb t).mp (List.mem_cons_of_mem _ ht)
        exact ⟨fun e => hab (by rw [← q.2, e, ca]), fun e => nb.1 (by rw [← e]; exact ht), q.1, q.2⟩
      refine ⟨lb ++ b :: la, ?_, ?_, ?_⟩
      · refine rg_app (y := b) ?_ lb r ?_
        · refine rg_congr la r b pa ?_ (fun w hw => ?_)
          · show (if b = r then n b else if b = b then n r else n b) = n r
            rw [if_neg hba, if_pos rfl]
          · show (if w = r then n b else if w = b then n r else n w) = n w
            rw [if_neg (ia w hw).1, if_neg (ia w hw).2.1]
        · refine rg_congr lb b r pb ?_ (fun w hw => ?_)
          · show (if r = r then n b else if r = b then n r else n r) = n b
            rw [if_pos rfl]
          · show (if w = r then n b else if w = b then n r else n w) = n w
            rw [if_neg (ib w hw).1, if_neg (ib w hw).2.1]
      · rw [List.nodup_cons, List.nodup_append, List.nodup_cons]
        refine ⟨?_, nb.2, ⟨fun e => (ia b e).2.1 rfl, na.2⟩, ?_⟩
        · intro e
          rcases List.mem_append.mp e with e | e
          · exact (ib r e).1 rfl
          · rcases List.mem_cons.mp e with e | e
            · exact hab e
            · exact na.1 e
        · intro p hp q hq e
          rcases List.mem_cons.mp hq with w | w
          · exact (ib p hp).2.1 (e.trans w)
          · have := (ib p hp).2.2.2
            rw [e, (ia q w).2.2.2] at this
            exact hab this
      · intro t
        show t ∈ r :: (lb ++ b :: la) ↔ (t < T ∧ (if c t = b then r else c t) = r)
        rw [en_c2]
        have qa := ma t
        have qb := mb t
        rw [List.mem_cons] at qa qb
        rw [List.mem_cons, List.mem_append, List.mem_cons]
        constructor
        · rintro (e | e | e | e)
          · exact ⟨(qa.mp (Or.inl e)).1, Or.inl (qa.mp (Or.inl e)).2⟩
          · exact ⟨(qb.mp (Or.inr e)).1, Or.inr (qb.mp (Or.inr e)).2⟩
          · exact ⟨(qb.mp (Or.inl e)).1, Or.inr (qb.mp (Or.inl e)).2⟩
          · exact ⟨(qa.mp (Or.inr e)).1, Or.inl (qa.mp (Or.inr e)).2⟩
        · rintro ⟨e, e1 | e1⟩
          · rcases qa.mpr ⟨e, e1⟩ with w | w
            · exact Or.inl w
            · exact Or.inr (Or.inr (Or.inr w))
          · rcases qb.mpr ⟨e, e1⟩ with w | w
            · exact Or.inr (Or.inr (Or.inl w))
            · exact Or.inr (Or.inl w)
    · obtain ⟨l, p, nd, m⟩ := hR r hr cr
      have il : ∀ t, t ∈ r :: l → t ≠ a ∧ t ≠ b := fun t ht => by
        have q := (m t).mp ht
        exact ⟨fun e => z (by rw [← q.2, e, ca]), fun e => rb (by rw [← q.2, e, cb])⟩
      have en : ∀ t, t ∈ r :: l → (if t = a then n b else if t = b then n a else n t) = n t := fun t ht => by
        rw [if_neg (il t ht).1, if_neg (il t ht).2]
      refine ⟨l, rg_congr l r r p (en r List.mem_cons_self) (fun w hw => en w (List.mem_cons_of_mem _ hw)), nd, fun t => ?_⟩
      show t ∈ r :: l ↔ (t < T ∧ (if c t = b then a else c t) = r)
      rw [en_c1 z rb]; exact m t
  · intro r hr er u hu
    obtain ⟨cr, rb⟩ := rep r hr er
    by_cases z : r = a
    · subst z
      rw [h4 u hu, Bool.or_eq_true, hU r haT ca u hu, hU b hbT cb u hu]
      show (en_us T K F G c r u ∨ en_us T K F G c b u) ↔ (u < T ∧ K u ≠ 0 ∧ ((if c (F u) = b then r else c (F u)) = r ∨ (K u = 2 ∧ (if c (G u) = b then r else c (G u)) = r)))
      rw [en_c2, en_c2]
      unfold en_us
      constructor
      · rintro (⟨q1, q2, q3 | q3⟩ | ⟨q1, q2, q3 | q3⟩)
        · exact ⟨q1, q2, Or.inl (Or.inl q3)⟩
        · exact ⟨q1, q2, Or.inr ⟨q3.1, Or.inl q3.2⟩⟩
        · exact ⟨q1, q2, Or.inl (Or.inr q3)⟩
        · exact ⟨q1, q2, Or.inr ⟨q3.1, Or.inr q3.2⟩⟩
      · rintro ⟨q1, q2, (q3 | q3) | ⟨q4, q3 | q3⟩⟩
        · exact Or.inl ⟨q1, q2, Or.inl q3⟩
        · exact Or.inr ⟨q1, q2, Or.inl q3⟩
        · exact Or.inl ⟨q1, q2, Or.inr ⟨q4, q3⟩⟩
        · exact Or.inr ⟨q1, q2, Or.inr ⟨q4, q3⟩⟩
    · rw [h3 r hr z, hU r hr cr u hu]
      show en_us T K F G c r u ↔ (u < T ∧ K u ≠ 0 ∧ ((if c (F u) = b then a else c (F u)) = r ∨ (K u = 2 ∧ (if c (G u) = b then a else c (G u)) = r)))
      rw [en_c1 z rb, en_c1 z rb]
      exact Iff.rfl
  · intro k p q k1 k4 hp ep hq hq2 hq3
    obtain ⟨cp, pb⟩ := rep p hp ep
    have hq2' : k = 2 → q < T ∧ c q = q := fun e => ⟨(hq2 e).1, (rep q (hq2 e).1 (hq2 e).2).1⟩
    rw [h5 _ (by omega) (by omega)]
    rcases hA k p q k1 k4 hp cp hq hq2' hq3 with w | ⟨w, w1, w2, w3, w4, w5⟩
    · exact Or.inl w
    · refine Or.inr ⟨w, w1, w2, w3, ?_, fun e => ?_⟩
      · show (if c (F w) = b then a else c (F w)) = p
        rw [w4, if_neg pb]
      · show (if c (G w) = b then a else c (G w)) = q
        rw [w5 e, if_neg (rep q (hq2 e).1 (hq2 e).2).2]
  · intro u hu hk hn
    have kb := en_kb hW hC hu hk
    have q1 : ¬ c (F u) = b := fun e => hn ⟨hu, hk, Or.inl e⟩
    have q2 : K u = 2 → ¬ c (G u) = b := fun z e => hn ⟨hu, hk, Or.inr ⟨z, e⟩⟩
    have ek : en_k K F G (fun t => if c t = b then a else c t) u = en_k K F G c u := by
      show 48 + 256 * (K u - 1) + 16 * (if c (F u) = b then a else c (F u)) + (if K u = 2 then (if c (G u) = b then a else c (G u)) else 0) = 48 + 256 * (K u - 1) + 16 * c (F u) + (if K u = 2 then c (G u) else 0)
      rw [if_neg q1]
      by_cases z : K u = 2
      · rw [if_pos z, if_pos z, if_neg (q2 z)]
      · rw [if_neg z, if_neg z]
    obtain ⟨w, w1, w2, w3⟩ := hB u hu hk (fun z => z)
    rw [ek, h5 _ kb.1 kb.2]
    exact ⟨w, w1, w2, up w3⟩
  · have cab : cc_C T K F G E a b := by
      have q1 := hL1 a x haT hx (by rw [ca, ea])
      have q2 := hL1 y b hy hbT (by rw [cb, eb])
      exact cc_tr q1 (cc_tr (hL2 (x, y) List.mem_cons_self) q2)
    have own : ∀ t, t < T → cc_C T K F G E t (if c t = b then a else c t) := fun t ht => by
      have q := hC t ht
      have q1 := hL1 t (c t) ht q.2.2.1 q.2.2.2.1.symm
      by_cases z : c t = b
      · rw [if_pos z]; rw [z] at q1; exact cc_tr q1 (cc_sy cab)
      · rw [if_neg z]; exact q1
    intro t u ht hu e
    have e' : (if c t = b then a else c t) = (if c u = b then a else c u) := e
    have q1 := own t ht
    have q2 := own u hu
    rw [← e'] at q2
    exact cc_tr q1 (cc_sy q2)
  · exact fun p hp => hL2 p (List.mem_cons_of_mem _ hp)
  · exact fun p q e => up (hL3 p q e)
end
end
section
/-! X: set, undo, entry, later, look -/
def en_D (T : Nat) (K F G : Nat → Nat) (ak af as : Nat → Int32) : Prop := ∀ t, t < T → ak t = nI (K t) ∧ (K t ≠ 0 → af t = nI (F t)) ∧ (K t = 2 → as t = nI (G t))
theorem xe_u {a : Nat → Int32} {i : Nat} {x y : Int32} (hi : i < 2 ^ 31) (h : x = y) : upd a (nI i).toNatClampNeg x = upd a i y := by rw [nI_clamp hi, h]
theorem xe_s1 {v : Int32} (h : tr_s v) : vp_nar .short v = v := by rw [vp_nar_short]; exact h
theorem xe_s2 {v v' : Int32} (h : v.toInt16.toInt32 = v') : vp_nar .short v.toInt16.toInt32 = v' := by rw [pk_vs]; exact h
theorem xe_b2 : ∀ t, t < 128 → vp_nar .byte (nI t).toInt8.toInt32 = nI t := fun t ht => by
  rw [pk_vb]; exact (by decide +kernel : ∀ t, t < 128 → (nI t).toInt8.toInt32 = nI t) t ht
theorem xe_a0 (i : Nat) : (0 : Int32) + nI i = nI i := Int32.zero_add _
theorem xe_a16 (i : Nat) : (16 : Int32) + nI i = nI (16 + i) := nI_add 16 i
theorem xe_a32 (i : Nat) : (32 : Int32) + nI i = nI (32 + i) := nI_add 32 i
theorem xe_r0 {a : Nat → Int32} {i : Nat} {x : Int32} (hi : i < 2 ^ 31) (h : a i = x) : a ((0 : Int32) + nI i).toNatClampNeg = x := by rw [xe_a0, nI_clamp hi, h]
theorem xe_r16 {a : Nat → Int32} {i : Nat} {x : Int32} (hi : i < 2 ^ 30) (h : a (16 + i) = x) : a ((16 : Int32) + nI i).toNatClampNeg = x := by rw [xe_a16, nI_clamp (by omega), h]
theorem xe_r32 {a : Nat → Int32} {i : Nat} {x : Int32} (hi : i < 2 ^ 30) (h : a (32 + i) = x) : a ((32 : Int32) + nI i).toNatClampNeg = x := by rw [xe_a32, nI_clamp (by omega), h]
theorem xe_in16 {i N : Nat} (h : 16 + i < N) (hN : N < 2 ^ 31) : vp_in ((16 : Int32) + nI i) N := by rw [xe_a16]; exact vp_in_nI h hN
theorem xe_in32 {i N : Nat} (h : 32 + i < N) (hN : N < 2 ^ 31) : vp_in ((32 : Int32) + nI i) N := by rw [xe_a32]; exact vp_in_nI h hN
theorem xe_r {a : Nat → Int32} {i : Nat} {x : Int32} (hi : i < 2 ^ 31) (h : a i = x) : a (nI i).toNatClampNeg = x := by rw [nI_clamp hi, h]
theorem xe_in0 {i N : Nat} (h : i < N) (hN : N < 2 ^ 31) : vp_in ((0 : Int32) + nI i) N := by rw [xe_a0]; exact vp_in_nI h hN
theorem xe_key {k a b : Nat} (hk : 1 ≤ k) : (((48 : Int32) + ((256 : Int32) * (nI k - 1))) + ((16 : Int32) * nI a)) + nI b = nI (48 + 256 * (k - 1) + 16 * a + b) := by
  have e1 : nI k - 1 = nI (k - 1) := pk_sub (a := k) (b := 1) hk
  have e2 : (256 : Int32) * nI (k - 1) = nI (256 * (k - 1)) := pk_mul 256 (k - 1)
  have e3 : (16 : Int32) * nI a = nI (16 * a) := pk_mul 16 a
  have e4 : (48 : Int32) + nI (256 * (k - 1)) = nI (48 + 256 * (k - 1)) := nI_add 48 _
  rw [e1, e2, e3, e4, nI_add, nI_add]
section
variable {f_terms f_atoms f_clauses f_depth f_trail f_pending f_known f_count f_always f_ever f_fewest f_most f_askA f_askB f_together : Int32} {a_kind a_first a_second a_left a_right a_yes a_no a_stack a_state a_trailAt a_trailOld a_pendingA a_pendingB a_says a_mark : Nat → Int32} {a_found : Nat → Int64}
variable {T : Nat} {K F G c nx : Nat → Nat} {E : Nat → Nat → Prop} {Q : List (Nat × Nat)} {X : Nat → Prop} {W0 W : List (Nat × Int32)} {s0 : Nat → Int32}
theorem xe_set {post : SX → Prop} {k : Nat} {ix v v' : Int32} {m : Nat} (ea : ix = nI k) (hm : m < 900) (hk : k < 816) (hv : v.toInt16.toInt32 = v') (hs : tr_s (a_state k)) (kk : post (f_terms, f_atoms, f_clauses, f_depth, nI (m + 1), f_pending, f_known, f_count, f_always, f_ever, f_fewest, f_most, f_askA, f_askB, f_together, a_kind, a_first, a_second, a_left, a_right, a_yes, a_no, a_stack, upd a_state k v', upd a_trailAt m (nI k), upd a_trailOld m (a_state k), a_pendingA, a_pendingB, a_found, a_says, a_mark)) : wpX_set post (f_terms, f_atoms, f_clauses, f_depth, nI m, f_pending, f_known, f_count, f_always, f_ever, f_fewest, f_most, f_askA, f_askB, f_together, a_kind, a_first, a_second, a_left, a_right, a_yes, a_no, a_stack, a_state, a_trailAt, a_trailOld, a_pendingA, a_pendingB, a_found, a_says, a_mark) ix v := by
  subst ea
  exact And.intro (vp_in_nI hm (by decide)) (nm_r (xe_u (by omega) (xe_s2 (tr_sn k hk))) (nm_r (nI_1 _) (And.intro (vp_in_nI hk (by decide)) (And.intro (vp_in_nI hm (by decide)) (nm_r (xe_u (by omega) (by rw [nI_clamp (by omega)]; exact xe_s1 hs)) (And.intro (vp_in_nI hk (by decide)) (nm_r (xe_u (by omega) (xe_s2 hv)) kk)))))))
theorem xe_undo0 {post : SX → Prop} {V : List (Nat × Int32)} : ∀ (W : List (Nat × Int32)) (s : Nat → Int32) (n : Nat), tr_P a_trailAt a_trailOld (W ++ V) → (W ++ V).length ≤ 900 → post (f_terms, f_atoms, f_clauses, f_depth, nI V.length, f_pending, f_known, f_count, f_always, f_ever, f_fewest, f_most, f_askA, f_askB, f_together, a_kind, a_first, a_second, a_left, a_right, a_yes, a_no, a_stack, tr_b W s, a_trailAt, a_trailOld, a_pendingA, a_pendingB, a_found, a_says, a_mark) → W.length < n → wX_undo_0 post (nI V.length) f_terms f_atoms f_clauses f_depth f_pending f_known f_count f_always f_ever f_fewest f_most f_askA f_askB f_together n (nI (W ++ V).length) a_kind a_first a_second a_left a_right a_yes a_no a_stack s a_trailAt a_trailOld a_pendingA a_pendingB a_found a_says a_mark
  | [], s, n + 1, _, _, kk, _ => br_t (Int32.le_refl _) kk
  | p :: W, s, n + 1, h, hl, kk, hn => by
    have l1 : (p :: W ++ V).length = (W ++ V).length + 1 := rfl
    have l2 : (W ++ V).length = W.length + V.length := List.length_append
    have l3 : (p :: W).length = W.length + 1 := rfl
    refine br_f (nI_ge (a := V.length) (b := (p :: W ++ V).length) (by omega) (by omega)) (nm_r (e' := nI (W ++ V).length) (nI_pred _) (And.intro (vp_in_nI (by omega) (by decide)) (And.intro (vp_in_nI (by omega) (by decide)) ?_)))
    have e1 : a_trailAt (nI (W ++ V).length).toNatClampNeg = nI p.1 := xe_r (by omega) h.1
    have e2 : a_trailOld (nI (W ++ V).length).toNatClampNeg = p.2 := xe_r (by omega) h.2.1
    have h3 := h.2.2.1
    rw [e1, e2]
    exact And.intro (vp_in_nI h.2.2.1 (by decide)) (nm_r (xe_u (by omega) (xe_s1 h.2.2.2.1)) (xe_undo0 W (upd s p.1 p.2) n h.2.2.2.2 (by omega) kk (by omega)))
theorem xe_undo {post : SX → Prop} (h : tr_R W0 s0 W a_state a_trailAt a_trailOld) (hl : W.length ≤ 900) (kk : tr_P a_trailAt a_trailOld W0 → post (f_terms, f_atoms, f_clauses, f_depth, nI W0.length, f_pending, f_known, f_count, f_always, f_ever, f_fewest, f_most, f_askA, f_askB, f_together, a_kind, a_first, a_second, a_left, a_right, a_yes, a_no, a_stack, s0, a_trailAt, a_trailOld, a_pendingA, a_pendingB, a_found, a_says, a_mark)) : wpX_undo post (f_terms, f_atoms, f_clauses, f_depth, nI W.length, f_pending, f_known, f_count, f_always, f_ever, f_fewest, f_most, f_askA, f_askB, f_together, a_kind, a_first, a_second, a_left, a_right, a_yes, a_no, a_stack, a_state, a_trailAt, a_trailOld, a_pendingA, a_pendingB, a_found, a_says, a_mark) (nI W0.length) := by
  obtain ⟨h1, W1, e, r⟩ := h
  subst e; subst r
  exact ⟨W1.length + 1, xe_undo0 W1 a_state _ h1 hl (kk (tr_app h1)) (by omega)⟩
theorem xe_undo' {post : SX → Prop} {x : Int32} (ex : x = nI W0.length) (h : tr_R W0 s0 W a_state a_trailAt a_trailOld) (hl : W.length ≤ 900) (kk : tr_P a_trailAt a_trailOld W0 → post (f_terms, f_atoms, f_clauses, f_depth, nI W0.length, f_pending, f_known, f_count, f_always, f_ever, f_fewest, f_most, f_askA, f_askB, f_together, a_kind, a_first, a_second, a_left, a_right, a_yes, a_no, a_stack, s0, a_trailAt, a_trailOld, a_pendingA, a_pendingB, a_found, a_says, a_mark)) : wpX_undo post (f_terms, f_atoms, f_clauses, f_depth, nI W.length, f_pending, f_known, f_count, f_always, f_ever, f_fewest, f_most, f_askA, f_askB, f_together, a_kind, a_first, a_second, a_left, a_right, a_yes, a_no, a_stack, a_state, a_trailAt, a_trailOld, a_pendingA, a_pendingB, a_found, a_says, a_mark) x := by
  subst ex
  exact xe_undo h hl kk
theorem xe_entry {post : Int32 → Prop} (hw : en_W T K F G) (hC : en_C T c nx a_state) (hD : en_D T K F G a_kind a_first a_second) {t : Nat} (ht : t < T) (h0 : K t ≠ 0) (kk : post (nI (en_k K F G c t))) : wpX_entry post (f_terms, f_atoms, f_clauses, f_depth, f_trail, f_pending, f_known, f_count, f_always, f_ever, f_fewest, f_most, f_askA, f_askB, f_together, a_kind, a_first, a_second, a_left, a_right, a_yes, a_no, a_stack, a_state, a_trailAt, a_trailOld, a_pendingA, a_pendingB, a_found, a_says, a_mark) (nI t) := by
  have hT := hw.1
  have hd := hD t ht
  have hf := en_cF hw hC ht h0
  have k4 := (hw.2 t ht).1
  have q1 : a_first (nI t).toNatClampNeg = nI (F t) := xe_r (by omega) (hd.2.1 h0)
  have qk : a_kind (nI t).toNatClampNeg = nI (K t) := xe_r (by omega) hd.1
  have ti : vp_in (nI t) 16 := vp_in_nI (by omega) (by decide)
  refine And.intro ti (And.intro (by rw [q1]; exact xe_in0 (by omega) (by decide)) (nm_r (e' := nI (c (F t))) (by rw [q1]; exact xe_r0 (by omega) hf.2.2.2) (And.intro ti (pk_eq (K t) 2 (fun z => ?_) (fun z => ?_) qk rfl (by omega) (by omega)))))
  · have hg := en_cG hw hC ht z
    have q2 : a_second (nI t).toNatClampNeg = nI (G t) := xe_r (by omega) (hd.2.2 z)
    have q3 : a_state ((0 : Int32) + nI (G t)).toNatClampNeg = nI (c (G t)) := xe_r0 (by omega) hg.2.2.2
    rw [q2, q3]
    refine And.intro ti (And.intro (xe_in0 (by omega) (by decide)) (And.intro ti ?_))
    rw [qk, xe_key (by omega)]
    unfold en_k at kk
    rw [if_pos z] at kk; exact kk
  · refine And.intro ti ?_
    rw [qk]
    have e := xe_key (k := K t) (a := c (F t)) (b := 0) (by omega)
    rw [nI_0] at e
    rw [e]
    unfold en_k at kk
    rw [if_neg z] at kk; exact kk
theorem xe_later {post : SX → Prop} {m x y : Nat} (hm : m < 256) (hx : x < 16) (hy : y < 16) (kk : post (f_terms, f_atoms, f_clauses, f_depth, f_trail, nI (m + 1), f_known, f_count, f_always, f_ever, f_fewest, f_most, f_askA, f_askB, f_together, a_kind, a_first, a_second, a_left, a_right, a_yes, a_no, a_stack, a_state, a_trailAt, a_trailOld, upd a_pendingA m (nI x), upd a_pendingB m (nI y), a_found, a_says, a_mark)) : wpX_later post (f_terms, f_atoms, f_clauses, f_depth, f_trail, nI m, f_known, f_count, f_always, f_ever, f_fewest, f_most, f_askA, f_askB, f_together, a_kind, a_first, a_second, a_left, a_right, a_yes, a_no, a_stack, a_state, a_trailAt, a_trailOld, a_pendingA, a_pendingB, a_found, a_says, a_mark) (nI x) (nI y) :=
  And.intro (vp_in_nI hm (by decide)) (nm_r (xe_u (by omega) (xe_b2 x (by omega))) (nm_r (nI_1 _) (And.intro (vp_in_nI hm (by decide)) (nm_r (xe_u (by omega) (xe_b2 y (by omega))) kk))))
theorem xe_look {post : SX → Prop} (hw : en_W T K F G) (hD : en_D T K F G a_kind a_first a_second) (hM : en_M T K F G X E c nx Q a_state) (hR : tr_R W0 s0 W a_state a_trailAt a_trailOld) (hP : pd_P T a_pendingA a_pendingB Q) (hWl : W.length < 900) (hQl : Q.length < 256) {t : Nat} (ht : t < T) (h0 : K t ≠ 0)
    (kk : ∀ (W' : List (Nat × Int32)) (Q' : List (Nat × Nat)) (st' ta' to' pa' pb' : Nat → Int32), en_M T K F G (fun u => X u ∧ u ≠ t) E c nx Q' st' → tr_R W0 s0 W' st' ta' to' → pd_P T pa' pb' Q' → W'.length ≤ W.length + 1 → Q'.length ≤ Q.length + 1 → post (f_terms, f_atoms, f_clauses, f_depth, nI W'.length, nI Q'.length, f_known, f_count, f_always, f_ever, f_fewest, f_most, f_askA, f_askB, f_together, a_kind, a_first, a_second, a_left, a_right, a_yes, a_no, a_stack, st', ta', to', pa', pb', a_found, a_says, a_mark)) :
    wpX_look post (f_terms, f_atoms, f_clauses, f_depth, nI W.length, nI Q.length, f_known, f_count, f_always, f_ever, f_fewest, f_most, f_askA, f_askB, f_together, a_kind, a_first, a_second, a_left, a_right, a_yes, a_no, a_stack, a_state, a_trailAt, a_trailOld, a_pendingA, a_pendingB, a_found, a_says, a_mark) (nI t) := by
  have hM' := hM
  obtain ⟨hS, hC, hR', hU, hA, hB, hL⟩ := hM'
  have hT := hw.1
  have kb := en_kb hw hC ht h0
  unfold wpX_look
  dsimp only
  refine xe_entry hw hC hD ht h0 ?_
  refine And.intro (vp_in_nI kb.2 (by decide)) ?_
  rcases en_Au hw hC hA ht h0 with hm | ⟨w, w1, w2, w3, w4, w5⟩
  · refine nm_r (e' := -1) (xe_r (by omega) hm) (br_f (by decide) (xe_set rfl hWl kb.2 (tr_sn t (by omega)) (hS _ kb.2) ?_))
    exact kk ((en_k K F G c t, a_state (en_k K F G c t)) :: W) Q _ _ _ _ _ (en_look1 hw hM ht h0 hm) (tr_push hR kb.2 (hS _ kb.2)) hP (Nat.le_refl _) (Nat.le_succ _)
  · refine nm_r (e' := nI w) (xe_r (by omega) w2) (br_t (nI_pos' (by omega)) (And.intro (xe_in0 (by omega) (by decide)) (And.intro (xe_in0 (by omega) (by decide)) ?_)))
    have cw := hC w w1
    have ct := hC t ht
    refine pk_eq (c w) (c t) (fun z => ?_) (fun z => ?_) (xe_r0 (by omega) cw.1) (xe_r0 (by omega) ct.1) (by omega) (by omega)
    · exact kk W Q _ _ _ _ _ (en_look2 hM ht w1 w2 z) hR hP (Nat.le_succ _) (Nat.le_succ _)
    · refine xe_later hQl (by omega) (by omega) ?_
      exact kk W ((w, t) :: Q) _ _ _ _ _ (en_look3 hw hM ht h0 w1 w2 w3 w4 w5) hR (pd_push hP w1 ht) (Nat.le_succ _) (Nat.le_refl _)
end
end
section
/-! X: unite, join -/
theorem xb_z {x : Int32} : x = 0 ↔ ∀ i, i < 32 → bt x i = false := ⟨fun e i _ => by rw [e]; exact b_0 i, fun h => b_ext fun i hi => by rw [h i hi, b_0]⟩
theorem xb_1 : ∀ i, i < 32 → i ≠ 0 → bt 1 i = false := by decide +kernel
theorem xb_bit (x : Int32) {u : Nat} (hu : u < 32) : ((x >>> (nI u &&& 31)) &&& 1) = 0 ↔ bt x u = false := by
  rw [xb_z]
  have e1 : bt 1 0 = true := by decide +kernel
  constructor
  · intro h
    have q := h 0 (by decide)
    rw [b_and, b_sshr u hu x (by decide), if_pos (by omega), e1, Bool.and_true] at q
    exact q
  · intro h i hi
    rw [b_and]
    by_cases z : i = 0
    · subst z
      rw [b_sshr u hu x (by decide), if_pos (by omega), e1, Bool.and_true]
      exact h
    · rw [xb_1 i hi z, Bool.and_false]
theorem xb_16 (v : Int32) {u : Nat} (hu : u < 16) : bt v.toInt16.toInt32 u = bt v u := by
  have h2 : u < 32 := by omega
  unfold bt
  rw [Int16.toBitVec_toInt32, Int32.toBitVec_toInt16, BitVec.getLsbD_signExtend, BitVec.getLsbD_signExtend]
  simp [hu, h2]
theorem xb_tr (v : Int32) : tr_s v.toInt16.toInt32 := by
  unfold tr_s
  rw [← vp_nar_short, pk_vs]
theorem xb_us (x : Int32) {u : Nat} (hu : u < 16) : (((x &&& 65535) >>> (nI u &&& 31)) &&& 1) = 0 ↔ bt x u = false := by
  rw [xb_bit _ (by omega), b_and, b_65535, decide_eq_true hu, Bool.and_true]
section
variable {f_terms f_atoms f_clauses f_depth f_trail f_pending f_known f_count f_always f_ever f_fewest f_most f_askA f_askB f_together : Int32} {a_kind a_first a_second a_left a_right a_yes a_no a_stack a_state a_trailAt a_trailOld a_pendingA a_pendingB a_says a_mark : Nat → Int32} {a_found : Nat → Int64}
variable {T : Nat} {K F G c nx : Nat → Nat} {E : Nat → Nat → Prop} {Q : List (Nat × Nat)} {X : Nat → Prop} {W0 W : List (Nat × Int32)} {s0 : Nat → Int32}
theorem en_Mw {X' : Nat → Prop} {st : Nat → Int32} (hx : ∀ u, u < T → X u → X' u) (h : en_M T K F G X E c nx Q st) : en_M T K F G X' E c nx Q st := by
  obtain ⟨hS, hC, hR, hU, hA, hB, hL⟩ := h
  exact ⟨hS, hC, hR, hU, hA, fun u hu hk hn => hB u hu hk (fun z => hn (hx u hu z)), hL⟩
theorem xe_walk {post : SX → Prop} {a b : Nat} (ha : a < 16) (hb : b < 16) : ∀ (l : List Nat) (t : Nat) (W : List (Nat × Int32)) (st ta to : Nat → Int32) (n : Nat), rg_P nx l t b → (∀ y, y ∈ t :: l → y < 16 ∧ st (16 + y) = nI (nx y)) → (∀ y, y ∈ l → y ≠ b) → en_S st → tr_R W0 s0 W st ta to → W.length + l.length + 1 ≤ 900 → l.length + 1 < n →
    (∀ (W' : List (Nat × Int32)) (st' ta' to' : Nat → Int32) (n' : Nat), tr_R W0 s0 W' st' ta' to' → W'.length = W.length + l.length + 1 → en_S st' → (∀ j, st' j = if j ∈ t :: l then nI a else st j) → wX_unite_5 post (nI a) (nI b) (n' + 1) (nI b) 0 f_terms f_atoms f_clauses f_depth (nI W'.length) f_pending f_known f_count f_always f_ever f_fewest f_most f_askA f_askB f_together a_kind a_first a_second a_left a_right a_yes a_no a_stack st' ta' to' a_pendingA a_pendingB a_found a_says a_mark) →
    wX_unite_5 post (nI a) (nI b) n (nI t) 1 f_terms f_atoms f_clauses f_depth (nI W.length) f_pending f_known f_count f_always f_ever f_fewest f_most f_askA f_askB f_together a_kind a_first a_second a_left a_right a_yes a_no a_stack st ta to a_pendingA a_pendingB a_found a_says a_mark
  | [], t, W, st, ta, to, n + 2, hp, hy, hb', hS, hR, hl, hn, kk => by
    have ht := hy t List.mem_cons_self
    have h2 : t < 816 := by omega
    have hl' : W.length < 900 := by simp only [List.length_nil] at hl; omega
    refine br_f (by decide) (xe_set (xe_a0 t) hl' h2 (tr_sn a (by omega)) (hS t h2) ?_)
    refine And.intro (xe_in16 (by omega) (by decide)) (nm_r (e' := nI b) (xe_r16 (by omega) (by rw [pk_un (by omega), ht.2]; exact congrArg nI hp)) (br_t rfl ?_))
    refine kk ((t, st t) :: W) _ _ _ n (tr_push hR h2 (hS t h2)) rfl ?_ ?_
    · intro j hj
      by_cases z : j = t
      · rw [z, pk_us]; exact tr_sn a (by omega)
      · rw [pk_un z]; exact hS j hj
    · intro j
      by_cases z : j = t
      · rw [z, pk_us, if_pos List.mem_cons_self]
      · rw [pk_un z, if_neg (fun q => (List.mem_cons.mp q).elim z (fun w => absurd w List.not_mem_nil))]
  | y :: l, t, W, st, ta, to, n + 1, hp, hy, hb', hS, hR, hl, hn, kk => by
    have ht := hy t List.mem_cons_self
    have h2 : t < 816 := by omega
    have ll : (y :: l).length = l.length + 1 := rfl
    have hl' : W.length < 900 := by omega
    have hyb := hb' y List.mem_cons_self
    have hy16 := (hy y (List.mem_cons_of_mem _ List.mem_cons_self)).1
    have hS' : en_S (upd st t (nI a)) := by
      intro j hj
      by_cases z : j = t
      · rw [z, pk_us]; exact tr_sn a (by omega)
      · rw [pk_un z]; exact hS j hj
    refine br_f (by decide) (xe_set (xe_a0 t) hl' h2 (tr_sn a (by omega)) (hS t h2) ?_)
    refine And.intro (xe_in16 (by omega) (by decide)) (nm_r (e' := nI y) (xe_r16 (by omega) (by rw [pk_un (by omega), ht.2]; exact congrArg nI hp.1)) (br_f (fun e => hyb ((nI_eq (by omega) (by omega)).mp e)) ?_))
    refine xe_walk ha hb l y ((t, st t) :: W) (upd st t (nI a)) _ _ n hp.2 ?_ (fun z hz => hb' z (List.mem_cons_of_mem _ hz)) hS' (tr_push hR h2 (hS t h2)) (by simp only [List.length_cons] at *; omega) (by omega) ?_
    · intro z hz
      have q := hy z (List.mem_cons_of_mem _ hz)
      exact ⟨q.1, by rw [pk_un (by omega)]; exact q.2⟩
    · intro W' st' ta' to' n' q1 q2 q3 q4
      refine kk W' st' ta' to' n' q1 (by simp only [List.length_cons] at *; omega) q3 ?_
      intro j
      rw [q4 j]
      by_cases z : j ∈ y :: l
      · rw [if_pos z, if_pos (List.mem_cons_of_mem _ z)]
      · rw [if_neg z]
        by_cases w : j = t
        · rw [w, pk_us, if_pos List.mem_cons_self]
        · rw [pk_un w, if_neg (fun q => (List.mem_cons.mp q).elim w z)]
theorem xe_users {post : SX → Prop} {x6 : Int32} (hw : en_W T K F G) (hD : en_D T K F G a_kind a_first a_second) (hx6 : ∀ u, u < T → (((x6 >>> (nI u &&& 31)) &&& 1) = 0 ↔ ¬ X u)) (hX : ∀ u, u < T → X u → K u ≠ 0)
    (m q : Nat) (kk : ∀ (W' : List (Nat × Int32)) (Q' : List (Nat × Nat)) (st' ta' to' pa' pb' : Nat → Int32), en_M T K F G (fun _ => False) E c nx Q' st' → tr_R W0 s0 W' st' ta' to' → pd_P T pa' pb' Q' → W'.length ≤ m → Q'.length ≤ q → post (nI T, f_atoms, f_clauses, f_depth, nI W'.length, nI Q'.length, f_known, f_count, f_always, f_ever, f_fewest, f_most, f_askA, f_askB, f_together, a_kind, a_first, a_second, a_left, a_right, a_yes, a_no, a_stack, st', ta', to', pa', pb', a_found, a_says, a_mark)) (hm : m ≤ 900) (hq : q ≤ 256) :
    ∀ (d i n : Nat) (W : List (Nat × Int32)) (Q : List (Nat × Nat)) (st ta to pa pb : Nat → Int32), i + d = T → d < n → en_M T K F G (fun u => X u ∧ i ≤ u) E c nx Q st → tr_R W0 s0 W st ta to → pd_P T pa pb Q → W.length + d ≤ m → Q.length + d ≤ q →
    wX_unite_118 post x6 n (nI i) (nI T) f_atoms f_clauses f_depth (nI W.length) (nI Q.length) f_known f_count f_always f_ever f_fewest f_most f_askA f_askB f_together a_kind a_first a_second a_left a_right a_yes a_no a_stack st ta to pa pb a_found a_says a_mark
  | 0, i, n + 1, W, Q, st, ta, to, pa, pb, hi, hn, hM, hR, hP, h1, h2 => by
    have hT := hw.1
    refine br_t (nI_le (by omega) (by omega)) (kk W Q st ta to pa pb (en_Mw (fun u hu z => by have := z.2; omega) hM) hR hP (by omega) (by omega))
  | d + 1, i, n + 1, W, Q, st, ta, to, pa, pb, hi, hn, hM, hR, hP, h1, h2 => by
    have hT := hw.1
    refine br_f (nI_ge (by omega) (by omega)) (br_c (fun z => ?_) (fun z => ?_))
    · have hx := (hx6 i (by omega)).mp z
      refine nm_r (nI_1 _) (xe_users hw hD hx6 hX m q kk hm hq d (i + 1) n W Q st ta to pa pb (by omega) (by omega) (en_Mw (fun u hu z => ?_) hM) hR hP (by omega) (by omega))
      refine ⟨z.1, ?_⟩
      have : u ≠ i := fun e => hx (by rw [← e]; exact z.1)
      have := z.2
      omega
    · have hx : X i := Classical.not_not.mp (fun y => z ((hx6 i (by omega)).mpr y))
      refine xe_look hw hD hM hR hP (by omega) (by omega) (by omega) (hX i (by omega) hx) ?_
      intro W' Q' st' ta' to' pa' pb' g1 g2 g3 g4 g5
      refine nm_r (nI_1 _) (xe_users hw hD hx6 hX m q kk hm hq d (i + 1) n W' Q' st' ta' to' pa' pb' (by omega) (by omega) (en_Mw (fun u hu z => ?_) g1) g2 g3 (by omega) (by omega))
      refine ⟨z.1.1, ?_⟩
      have := z.1.2
      have := z.2
      omega
theorem rg_len {l : List Nat} {N : Nat} (hn : l.Nodup) (h : ∀ t, t ∈ l → t < N) : l.length ≤ N := by
  have key : ∀ (l : List Nat), l.Nodup → (∀ t, t ∈ l → t < N) → ct_n (fun t => t ∈ l) N = l.length := by
    intro l
    induction l with
    | nil => intro _ _; exact ct_zero.mpr (fun k _ => List.not_mem_nil)
    | cons x l ih =>
      intro hn h
      rw [List.nodup_cons] at hn
      rw [List.length_cons, ← ih hn.2 (fun t ht => h t (List.mem_cons_of_mem _ ht)), ← ct_add (P := fun t => t ∈ l) hn.1 (h x List.mem_cons_self)]
      exact ct_eq fun k _ => ⟨fun z => (List.mem_cons.mp z).elim Or.inr Or.inl, fun z => z.elim (fun w => List.mem_cons_of_mem _ w) (fun w => by rw [w]; exact List.mem_cons_self)⟩
  rw [← key l hn h]
  exact ct_le _ _
end
end
section
/-! X: unite, join -/
section
variable {f_terms f_atoms f_clauses f_depth f_trail f_pending f_known f_count f_always f_ever f_fewest f_most f_askA f_askB f_together : Int32} {a_kind a_first a_second a_left a_right a_yes a_no a_stack a_state a_trailAt a_trailOld a_pendingA a_pendingB a_says a_mark : Nat → Int32} {a_found : Nat → Int64}
variable {T : Nat} {K F G c nx : Nat → Nat} {E : Nat → Nat → Prop} {Q : List (Nat × Nat)} {W0 W : List (Nat × Int32)} {s0 : Nat → Int32}
theorem en_unite (hw : en_W T K F G) {x y : Nat} {st st1 : Nat → Int32} (hM : en_M T K F G (fun _ => False) E c nx ((x, y) :: Q) st) (hx : x < T) (hy : y < T) {a b : Nat} (ea : c x = a) (eb : c y = b) (hab : a ≠ b) {l : List Nat} (hl : ∀ t, t ∈ b :: l ↔ (t < T ∧ c t = b)) (e1 : ∀ j, st1 j = if j ∈ b :: l then nI a else st j) (s1 : en_S st1) :
    en_M T K F G (fun u => en_us T K F G c b u) E (fun t => if c t = b then a else c t) (fun t => if t = a then nx b else if t = b then nx a else nx t) Q (upd (upd (upd st1 (16 + a) (nI (nx b))) (16 + b) (nI (nx a))) (32 + a) (st (32 + a) ||| (st (32 + b) &&& 65535)).toInt16.toInt32) := by
  have hT := hw.1
  have hC := hM.2.1
  have hS := hM.1
  have haT : a < T := by rw [← ea]; exact (hC x hx).2.2.1
  have hbT : b < T := by rw [← eb]; exact (hC y hy).2.2.1
  have big : ∀ j, 16 ≤ j → st1 j = st j := fun j hj => by
    rw [e1 j, if_neg (fun q => by have := ((hl j).mp q).1; omega)]
  refine en_merge hw hM hx hy ea eb hab ?_ ?_ ?_ ?_ ?_ ?_
  · intro t ht
    rw [pk_un (by omega), pk_un (by omega), pk_un (by omega), e1 t]
    by_cases z : c t = b
    · rw [if_pos ((hl t).mpr ⟨ht, z⟩), if_pos z]
    · rw [if_neg (fun q => z ((hl t).mp q).2), if_neg z]; exact (hC t ht).1
  · intro t ht
    rw [pk_un (by omega)]
    by_cases z : t = b
    · rw [z, pk_us, if_neg (fun e => hab e.symm), if_pos rfl]
    · rw [pk_un (by omega)]
      by_cases w : t = a
      · rw [w, pk_us, if_pos rfl]
      · rw [pk_un (by omega), big _ (by omega), if_neg w, if_neg z]; exact (hC t ht).2.1
  · intro r hr hra
    rw [pk_un (by omega), pk_un (by omega), pk_un (by omega), big _ (by omega)]
  · intro u hu
    rw [pk_us, xb_16 _ hu, b_or, b_and, b_65535, decide_eq_true hu, Bool.and_true]
  · intro j h1 h2
    rw [pk_un (by omega), pk_un (by omega), pk_un (by omega), big _ (by omega)]
  · intro j hj
    by_cases z : j = 32 + a
    · rw [z, pk_us]; exact xb_tr _
    · rw [pk_un z]
      by_cases w : j = 16 + b
      · rw [w, pk_us]; exact tr_sn _ (by have := (hC a haT).2.2.2.2; omega)
      · rw [pk_un w]
        by_cases v : j = 16 + a
        · rw [v, pk_us]; exact tr_sn _ (by have := (hC b hbT).2.2.2.2; omega)
        · rw [pk_un v]; exact s1 j hj
theorem xe_unite {post : SX → Prop} (hw : en_W T K F G) (hD : en_D T K F G a_kind a_first a_second) {x y : Nat} (hM : en_M T K F G (fun _ => False) E c nx ((x, y) :: Q) a_state) (hR : tr_R W0 s0 W a_state a_trailAt a_trailOld) (hP : pd_P T a_pendingA a_pendingB Q) (hx : x < T) (hy : y < T) {a b : Nat} (ea : c x = a) (eb : c y = b) (hab : a ≠ b) (hWl : W.length + 35 ≤ 900) (hQl : Q.length + 16 ≤ 256)
    (kk : ∀ (c' nx' : Nat → Nat) (W' : List (Nat × Int32)) (Q' : List (Nat × Nat)) (st' ta' to' pa' pb' : Nat → Int32), en_M T K F G (fun _ => False) E c' nx' Q' st' → tr_R W0 s0 W' st' ta' to' → pd_P T pa' pb' Q' → W'.length ≤ W.length + 35 → Q'.length ≤ Q.length + 16 → ct_n (fun t => c' t = t) T + 1 = ct_n (fun t => c t = t) T → post (nI T, f_atoms, f_clauses, f_depth, nI W'.length, nI Q'.length, f_known, f_count, f_always, f_ever, f_fewest, f_most, f_askA, f_askB, f_together, a_kind, a_first, a_second, a_left, a_right, a_yes, a_no, a_stack, st', ta', to', pa', pb', a_found, a_says, a_mark)) :
    wpX_unite post (nI T, f_atoms, f_clauses, f_depth, nI W.length, nI Q.length, f_known, f_count, f_always, f_ever, f_fewest, f_most, f_askA, f_askB, f_together, a_kind, a_first, a_second, a_left, a_right, a_yes, a_no, a_stack, a_state, a_trailAt, a_trailOld, a_pendingA, a_pendingB, a_found, a_says, a_mark) (nI a) (nI b) := by
  have hT := hw.1
  have hC := hM.2.1
  have hS := hM.1
  have hU := hM.2.2.2.1
  have haT : a < T := by rw [← ea]; exact (hC x hx).2.2.1
  have hbT : b < T := by rw [← eb]; exact (hC y hy).2.2.1
  have ca : c a = a := by rw [← ea]; exact (hC x hx).2.2.2.1
  have cb : c b = b := by rw [← eb]; exact (hC y hy).2.2.2.1
  have na := (hC a haT)
  have nb := (hC b hbT)
  obtain ⟨l, p, nd, hl⟩ := hM.2.2.1 b hbT cb
  have len := rg_len (N := T) nd (fun t ht => ((hl t).mp ht).1)
  have len' : (b :: l).length = l.length + 1 := rfl
  refine ⟨l.length + 2, xe_walk (nx := nx) (by omega) (by omega) l b W a_state a_trailAt a_trailOld _ p (fun z hz => ?_) (fun z hz e => ?_) hS hR (by omega) (by omega) ?_⟩
  · have q := (hl z).mp hz
    exact ⟨by omega, (hC z q.1).2.1⟩
  · rw [List.nodup_cons] at nd
    exact nd.1 (by rw [← e]; exact hz)
  · intro W1 st1 ta1 to1 n' r1 w1 s1 e1
    have big : ∀ j, 16 ≤ j → st1 j = a_state j := fun j hj => by
      rw [e1 j, if_neg (fun q => by have := ((hl j).mp q).1; omega)]
    have hm := en_unite hw hM hx hy ea eb hab hl e1 s1
    have g1 : st1 (16 + a) = nI (nx a) := by rw [big _ (by omega)]; exact na.2.1
    have g2 : st1 (16 + b) = nI (nx b) := by rw [big _ (by omega)]; exact nb.2.1
    refine br_t rfl (And.intro (xe_in16 (by omega) (by decide)) (nm_r (e' := nI (nx a)) (xe_r16 (by omega) g1) (And.intro (xe_in16 (by omega) (by decide)) ?_)))
    have t1 : tr_s (st1 (16 + a)) := s1 _ (by omega)
    refine xe_set (v' := nI (nx b)) (m := W1.length) (xe_a16 a) (by omega) (by omega) (by rw [xe_r16 (by omega) g2]; exact tr_sn _ (by omega)) t1 ?_
    have r2 := tr_push r1 (k := 16 + a) (v := nI (nx b)) (by omega) t1
    have t2 : tr_s (upd st1 (16 + a) (nI (nx b)) (16 + b)) := by
      rw [pk_un (by omega)]; exact s1 _ (by omega)
    refine xe_set (v' := nI (nx a)) (m := W1.length + 1) (xe_a16 b) (by omega) (by omega) (tr_sn _ (by omega)) t2 ?_
    have r3 := tr_push r2 (k := 16 + b) (v := nI (nx a)) (by omega) t2
    have g3 : upd (upd st1 (16 + a) (nI (nx b))) (16 + b) (nI (nx a)) (32 + b) = a_state (32 + b) := by
      rw [pk_un (by omega), pk_un (by omega), big _ (by omega)]
    have g4 : upd (upd st1 (16 + a) (nI (nx b))) (16 + b) (nI (nx a)) (32 + a) = a_state (32 + a) := by
      rw [pk_un (by omega), pk_un (by omega), big _ (by omega)]
    refine And.intro (xe_in32 (by omega) (by decide)) (nm_r (e' := a_state (32 + b) &&& 65535) (by rw [xe_r32 (by omega) g3]) (And.intro (xe_in32 (by omega) (by decide)) ?_))
    have t3 : tr_s (upd (upd st1 (16 + a) (nI (nx b))) (16 + b) (nI (nx a)) (32 + a)) := by
      rw [g4]; exact hS _ (by omega)
    refine xe_set (v' := (a_state (32 + a) ||| (a_state (32 + b) &&& 65535)).toInt16.toInt32) (m := W1.length + 2) (xe_a32 a) (by omega) (by omega) (by rw [xe_r32 (by omega) g4]) t3 ?_
    have r4 := tr_push r3 (k := 32 + a) (v := (a_state (32 + a) ||| (a_state (32 + b) &&& 65535)).toInt16.toInt32) (by omega) t3
    refine ⟨T + 1, xe_users (X := fun u => en_us T K F G c b u) hw hD ?_ (fun u hu z => z.2.1) (W.length + 35) (Q.length + 16) ?_ hWl hQl T 0 (T + 1) _ Q _ _ _ _ _ (by omega) (by omega) (en_Mw (fun u hu z => ⟨z, Nat.zero_le _⟩) hm) r4 hP ?_ (by omega)⟩
    · intro u hu
      rw [xb_us _ (by omega), ← Bool.not_eq_true, hU b hbT cb u (by omega)]
    · intro W' Q' st' ta' to' pa' pb' k1 k2 k3 k4 k5
      exact kk _ _ W' Q' st' ta' to' pa' pb' k1 k2 k3 k4 k5 (ct_join hbT cb hab ca)
    · simp only [List.length_cons]; omega
theorem en_pop {x y : Nat} {st : Nat → Int32} {X : Nat → Prop} (h : en_M T K F G X E c nx ((x, y) :: Q) st) (hx : x < T) (hy : y < T) (e : c x = c y) : en_M T K F G X E c nx Q st := by
  obtain ⟨hS, hC, hR, hU, hA, hB, hL1, hL2, hL3⟩ := h
  have up : ∀ {p q : Nat}, cc_E T c ((x, y) :: Q) p q → cc_E T c Q p q := fun h => cc_Ele (fun t u ht hu e => cc_Ec ht hu e) (fun p hp => by
    rcases List.mem_cons.mp hp with z | z
    · rw [z]; exact cc_Ec hx hy e
    · exact cc_Ep z) h
  refine ⟨hS, hC, hR, hU, hA, fun u a b d => ?_, hL1, fun p hp => hL2 p (List.mem_cons_of_mem _ hp), fun p q z => up (hL3 p q z)⟩
  obtain ⟨w, w1, w2, w3⟩ := hB u a b d
  exact ⟨w, w1, w2, up w3⟩
theorem xe_join0 {post : SX → Prop} (hw : en_W T K F G) (hD : en_D T K F G a_kind a_first a_second)
    (kk : ∀ (c' nx' : Nat → Nat) (W' : List (Nat × Int32)) (st' ta' to' pa' pb' : Nat → Int32), en_M T K F G (fun _ => False) E c' nx' [] st' → tr_R W0 s0 W' st' ta' to' → W'.length + 35 * ct_n (fun t => c' t = t) T ≤ 600 → post (nI T, f_atoms, f_clauses, f_depth, nI W'.length, 0, f_known, f_count, f_always, f_ever, f_fewest, f_most, f_askA, f_askB, f_together, a_kind, a_first, a_second, a_left, a_right, a_yes, a_no, a_stack, st', ta', to', pa', pb', a_found, a_says, a_mark)) :
    ∀ (n : Nat) (c nx : Nat → Nat) (W : List (Nat × Int32)) (Q : List (Nat × Nat)) (st ta to pa pb : Nat → Int32), 17 * ct_n (fun t => c t = t) T + Q.length < n → en_M T K F G (fun _ => False) E c nx Q st → tr_R W0 s0 W st ta to → pd_P T pa pb Q → W.length + 35 * ct_n (fun t => c t = t) T ≤ 600 → Q.length + 15 * ct_n (fun t => c t = t) T ≤ 256 →
    wX_join_0 post n (nI T) f_atoms f_clauses f_depth (nI W.length) (nI Q.length) f_known f_count f_always f_ever f_fewest f_most f_askA f_askB f_together a_kind a_first a_second a_left a_right a_yes a_no a_stack st ta to pa pb a_found a_says a_mark
  | n + 1, c, nx, W, [], st, ta, to, pa, pb, hn, hM, hR, hP, h1, h2 => by
    refine br_t (Int32.le_refl _) (kk c nx W st ta to pa pb hM hR h1)
  | n + 1, c, nx, W, (x, y) :: Q, st, ta, to, pa, pb, hn, hM, hR, hP, h1, h2 => by
    have hT := hw.1
    have hC := hM.2.1
    have l1 : ((x, y) :: Q).length = Q.length + 1 := rfl
    have qa : pa (nI Q.length).toNatClampNeg = nI x := xe_r (by omega) hP.1
    have qb : pb (nI Q.length).toNatClampNeg = nI y := xe_r (by omega) hP.2.1
    have hx : x < T := hP.2.2.1
    have hy : y < T := hP.2.2.2.1
    have cx := hC x hx
    have cy := hC y hy
    refine br_f (nI_nle (n := Q.length + 1) (by omega) (by omega)) (nm_r (e' := nI Q.length) (nI_pred _) (And.intro (vp_in_nI (by omega) (by decide)) (And.intro (by rw [qa]; exact xe_in0 (by omega) (by decide)) (nm_r (e' := nI (c x)) (by rw [qa]; exact xe_r0 (by omega) cx.1) (And.intro (vp_in_nI (by omega) (by decide)) (And.intro (by rw [qb]; exact xe_in0 (by omega) (by decide)) (nm_r (e' := nI (c y)) (by rw [qb]; exact xe_r0 (by omega) cy.1) ?_)))))))
    refine pk_eq (c x) (c y) (fun z => ?_) (fun z => ?_) rfl rfl (by omega) (by omega)
    · exact xe_join0 hw hD kk n c nx W Q st ta to pa pb (by omega) (en_pop hM hx hy z) hR hP.2.2.2.2 h1 (by omega)
    · have hj := ct_join (T := T) (c := c) (a := c x) (b := c y) cy.2.2.1 cy.2.2.2.1 z cx.2.2.2.1
      refine xe_unite hw hD hM hR hP.2.2.2.2 hx hy rfl rfl z (by omega) (by omega) ?_
      intro c' nx' W' Q' st' ta' to' pa' pb' k1 k2 k3 k4 k5 k6
      exact xe_join0 hw hD kk n c' nx' W' Q' st' ta' to' pa' pb' (by omega) k1 k2 k3 (by omega) (by omega)
theorem xe_join {post : SX → Prop} (hw : en_W T K F G) (hD : en_D T K F G a_kind a_first a_second) (hM : en_M T K F G (fun _ => False) E c nx Q a_state) (hR : tr_R W0 s0 W a_state a_trailAt a_trailOld) (hP : pd_P T a_pendingA a_pendingB Q) (h1 : W.length + 35 * ct_n (fun t => c t = t) T ≤ 600) (h2 : Q.length + 15 * ct_n (fun t => c t = t) T ≤ 256)
    (kk : ∀ (c' nx' : Nat → Nat) (W' : List (Nat × Int32)) (st' ta' to' pa' pb' : Nat → Int32), en_M T K F G (fun _ => False) E c' nx' [] st' → tr_R W0 s0 W' st' ta' to' → W'.length + 35 * ct_n (fun t => c' t = t) T ≤ 600 → post (nI T, f_atoms, f_clauses, f_depth, nI W'.length, 0, f_known, f_count, f_always, f_ever, f_fewest, f_most, f_askA, f_askB, f_together, a_kind, a_first, a_second, a_left, a_right, a_yes, a_no, a_stack, st', ta', to', pa', pb', a_found, a_says, a_mark)) :
    wpX_join post (nI T, f_atoms, f_clauses, f_depth, nI W.length, nI Q.length, f_known, f_count, f_always, f_ever, f_fewest, f_most, f_askA, f_askB, f_together, a_kind, a_first, a_second, a_left, a_right, a_yes, a_no, a_stack, a_state, a_trailAt, a_trailOld, a_pendingA, a_pendingB, a_found, a_says, a_mark) :=
  ⟨17 * ct_n (fun t => c t = t) T + Q.length + 1, xe_join0 hw hD kk _ c nx W Q a_state a_trailAt a_trailOld a_pendingA a_pendingB (by omega) hM hR hP h1 h2⟩
end
end
section
/-! X: begin -/
theorem xb_sl {i u : Nat} (hi : i < 16) (hu : u < 16) (x : Int32) : bt (x ||| ((1 : Int32) <<< (nI i &&& 31))).toInt16.toInt32 u = (bt x u || decide (u = i)) := by
  rw [xb_16 _ hu, b_or, b_shl i (by omega) 1 (by omega)]
  by_cases z : u = i
  · subst z
    rw [decide_eq_true (Nat.le_refl u), Nat.sub_self, decide_eq_true (rfl : u = u)]
    have : bt 1 0 = true := by decide +kernel
    rw [this]; rfl
  · rw [decide_eq_false z]
    by_cases w : i ≤ u
    · rw [xb_1 (u - i) (by omega) (by omega), Bool.and_false]
    · rw [decide_eq_false w, Bool.false_and]
theorem xe_m1 : vp_nar .short (-1) = -1 := by rw [vp_nar_short]; decide
theorem xe_z0 : vp_nar .short 0 = 0 := by rw [vp_nar_short]; decide
theorem xe_u32 {a : Nat → Int32} {i : Nat} {x y : Int32} (hi : i < 2 ^ 30) (h : x = y) : upd a ((32 : Int32) + nI i).toNatClampNeg x = upd a (32 + i) y := by rw [xe_a32, nI_clamp (by omega), h]
theorem xe_u16 {a : Nat → Int32} {i : Nat} {x y : Int32} (hi : i < 2 ^ 30) (h : x = y) : upd a ((16 : Int32) + nI i).toNatClampNeg x = upd a (16 + i) y := by rw [xe_a16, nI_clamp (by omega), h]
theorem xe_u0 {a : Nat → Int32} {i : Nat} {x y : Int32} (hi : i < 2 ^ 30) (h : x = y) : upd a ((0 : Int32) + nI i).toNatClampNeg x = upd a i y := by rw [xe_a0, nI_clamp (by omega), h]
/-- what the first loop of begin has laid for the terms below i -/
def bg_I (K F G : Nat → Nat) (i : Nat) (st : Nat → Int32) : Prop :=
  en_S st ∧ (∀ t, t < i → st t = nI t ∧ st (16 + t) = nI t) ∧ (∀ r, r < i → ∀ u, u < 16 → (bt (st (32 + r)) u = true ↔ (u < i ∧ K u ≠ 0 ∧ (F u = r ∨ (K u = 2 ∧ G u = r))))) ∧ (∀ j, 48 ≤ j → j < 816 → st j = -1)
section
variable {T : Nat} {K F G : Nat → Nat}
theorem en_Su {st : Nat → Int32} (h : en_S st) {k : Nat} {v : Int32} (hv : tr_s v) : en_S (upd st k v) := by
  intro j hj
  by_cases z : j = k
  · rw [z, pk_us]; exact hv
  · rw [pk_un z]; exact h j hj
theorem bg_0 (hw : en_W T K F G) {i : Nat} (hi : i < T) {st : Nat → Int32} (h : bg_I K F G i st) : en_S (upd (upd (upd st i (nI i)) (16 + i) (nI i)) (32 + i) 0) ∧ (∀ t, t < i + 1 → upd (upd (upd st i (nI i)) (16 + i) (nI i)) (32 + i) 0 t = nI t ∧ upd (upd (upd st i (nI i)) (16 + i) (nI i)) (32 + i) 0 (16 + t) = nI t) ∧ (∀ r, r < i + 1 → ∀ u, u < 16 → (bt (upd (upd (upd st i (nI i)) (16 + i) (nI i)) (32 + i) 0 (32 + r)) u = true ↔ (u < i ∧ K u ≠ 0 ∧ (F u = r ∨ (K u = 2 ∧ G u = r))))) ∧ (∀ j, 48 ≤ j → j < 816 → upd (upd (upd st i (nI i)) (16 + i) (nI i)) (32 + i) 0 j = -1) := by
  obtain ⟨h1, h2, h3, h4⟩ := h
  have hT := hw.1
  refine ⟨en_Su (en_Su (en_Su h1 (tr_sn i (by omega))) (tr_sn i (by omega))) (by unfold tr_s; decide), ?_, ?_, ?_⟩
  · intro t ht
    constructor
    · rw [pk_un (by omega), pk_un (by omega)]
      by_cases z : t = i
      · rw [z, pk_us]
      · rw [pk_un z]; exact (h2 t (by omega)).1
    · rw [pk_un (by omega)]
      by_cases z : t = i
      · rw [z, pk_us]
      · rw [pk_un (by omega), pk_un (by omega)]; exact (h2 t (by omega)).2
  · intro r hr u hu
    by_cases z : r = i
    · subst z
      rw [pk_us, b_0]
      constructor
      · intro e; exact absurd e (by decide)
      · rintro ⟨q1, q2, q3 | q3⟩
        · have := (hw.2 u (by omega)).2.1 q2; omega
        · have := (hw.2 u (by omega)).2.2 q3.1; omega
    · rw [pk_un (by omega), pk_un (by omega), pk_un (by omega)]
      exact h3 r (by omega) u hu
  · intro j a b
    rw [pk_un (by omega), pk_un (by omega), pk_un (by omega)]; exact h4 j a b
/-- the user i is marked at r0 -/
theorem bg_add {i r0 : Nat} (hi : i < 16) (hr0 : r0 < 16) {st : Nat → Int32} {P : Nat → Nat → Prop} (h1 : en_S st) (h2 : ∀ t, t < i + 1 → st t = nI t ∧ st (16 + t) = nI t) (h3 : ∀ r, r < i + 1 → ∀ u, u < 16 → (bt (st (32 + r)) u = true ↔ P r u)) (h4 : ∀ j, 48 ≤ j → j < 816 → st j = -1) :
    en_S (upd st (32 + r0) (st (32 + r0) ||| ((1 : Int32) <<< (nI i &&& 31))).toInt16.toInt32) ∧ (∀ t, t < i + 1 → upd st (32 + r0) (st (32 + r0) ||| ((1 : Int32) <<< (nI i &&& 31))).toInt16.toInt32 t = nI t ∧ upd st (32 + r0) (st (32 + r0) ||| ((1 : Int32) <<< (nI i &&& 31))).toInt16.toInt32 (16 + t) = nI t) ∧ (∀ r, r < i + 1 → ∀ u, u < 16 → (bt (upd st (32 + r0) (st (32 + r0) ||| ((1 : Int32) <<< (nI i &&& 31))).toInt16.toInt32 (32 + r)) u = true ↔ (P r u ∨ (r = r0 ∧ u = i)))) ∧ (∀ j, 48 ≤ j → j < 816 → upd st (32 + r0) (st (32 + r0) ||| ((1 : Int32) <<< (nI i &&& 31))).toInt16.toInt32 j = -1) := by
  refine ⟨en_Su h1 (xb_tr _), ?_, ?_, ?_⟩
  · intro t ht
    rw [pk_un (by omega), pk_un (by omega)]; exact h2 t ht
  · intro r hr u hu
    by_cases z : r = r0
    · subst z
      rw [pk_us, xb_sl hi hu, Bool.or_eq_true, h3 r hr u hu, decide_eq_true_eq]
      exact ⟨fun q => q.elim Or.inl (fun w => Or.inr ⟨rfl, w⟩), fun q => q.elim Or.inl (fun w => Or.inr w.2)⟩
    · rw [pk_un (by omega), h3 r hr u hu]
      exact ⟨Or.inl, fun q => q.elim id (fun w => absurd w.1 z)⟩
  · intro j a b
    rw [pk_un (by omega)]; exact h4 j a b
variable {f_terms f_atoms f_clauses f_depth f_trail f_pending f_known f_count f_always f_ever f_fewest f_most f_askA f_askB f_together : Int32} {a_kind a_first a_second a_left a_right a_yes a_no a_stack a_state a_trailAt a_trailOld a_pendingA a_pendingB a_says a_mark : Nat → Int32} {a_found : Nat → Int64}
theorem xe_bg145 {post : SX → Prop} (hw : en_W T K F G) (hD : en_D T K F G a_kind a_first a_second)
    (kk : ∀ (c nx : Nat → Nat) (st ta to pa pb : Nat → Int32), en_M T K F G (fun _ => False) (fun _ _ => False) c nx [] st → post (nI T, f_atoms, f_clauses, f_depth, 0, 0, f_known, f_count, f_always, f_ever, f_fewest, f_most, f_askA, f_askB, f_together, a_kind, a_first, a_second, a_left, a_right, a_yes, a_no, a_stack, st, ta, to, pa, pb, a_found, a_says, a_mark)) {s0 : Nat → Int32} :
    ∀ (d i n : Nat) (W : List (Nat × Int32)) (Q : List (Nat × Nat)) (st ta to pa pb : Nat → Int32), i + d = T → d < n → en_M T K F G (fun u => i ≤ u) (fun _ _ => False) (fun t => t) (fun t => t) Q st → tr_R [] s0 W st ta to → pd_P T pa pb Q → W.length ≤ i → Q.length ≤ i →
    wX_begin_145 post n (nI i) (nI T) f_atoms f_clauses f_depth (nI W.length) (nI Q.length) f_known f_count f_always f_ever f_fewest f_most f_askA f_askB f_together a_kind a_first a_second a_left a_right a_yes a_no a_stack st ta to pa pb a_found a_says a_mark
  | 0, i, n + 1, W, Q, st, ta, to, pa, pb, hi, hn, hM, hR, hP, h1, h2 => by
    have hT := hw.1
    have hf : ct_n (fun t => t = t) T = T := ct_full.mpr (fun k _ => rfl)
    refine br_t (nI_le (by omega) (by omega)) (xe_join hw hD (en_Mw (fun u hu z => by omega) hM) hR hP (by omega) (by omega) ?_)
    intro c' nx' W' st' ta' to' pa' pb' k1 k2 k3
    exact kk c' nx' st' ta' to' pa' pb' k1
  | d + 1, i, n + 1, W, Q, st, ta, to, pa, pb, hi, hn, hM, hR, hP, h1, h2 => by
    have hT := hw.1
    have qk : a_kind (nI i).toNatClampNeg = nI (K i) := xe_r (by omega) (hD i (by omega)).1
    have k4 := (hw.2 i (by omega)).1
    refine br_f (nI_ge (by omega) (by omega)) (And.intro (vp_in_nI (by omega) (by decide)) (pk_eq (K i) 0 (fun z => ?_) (fun z => ?_) qk rfl (by omega) (by omega)))
    · refine nm_r (nI_1 _) (xe_bg145 hw hD kk d (i + 1) n W Q st ta to pa pb (by omega) (by omega) ?_ hR hP (by omega) (by omega))
      obtain ⟨m1, m2, m3, m4, m5, m6, m7⟩ := hM
      exact ⟨m1, m2, m3, m4, m5, fun u hu hk hx => m6 u hu hk (fun y => by
        have : u ≠ i := fun e => hk (by rw [e]; exact z)
        omega), m7⟩
    · refine xe_look hw hD hM hR hP (by omega) (by omega) (by omega) z ?_
      intro W' Q' st' ta' to' pa' pb' g1 g2 g3 g4 g5
      refine nm_r (nI_1 _) (xe_bg145 hw hD kk d (i + 1) n W' Q' st' ta' to' pa' pb' (by omega) (by omega) (en_Mw (fun u hu z => ?_) g1) g2 g3 (by omega) (by omega))
      have := z.1
      have := z.2
      omega
theorem bg_M (hw : en_W T K F G) {st : Nat → Int32} (h : bg_I K F G T st) : en_M T K F G (fun u => 0 ≤ u) (fun _ _ => False) (fun t => t) (fun t => t) [] st := by
  obtain ⟨h1, h2, h3, h4⟩ := h
  have hT := hw.1
  refine ⟨h1, fun t ht => ⟨(h2 t ht).1, (h2 t ht).2, ht, rfl, ht⟩, ?_, ?_, ?_, ?_, ?_, ?_, ?_⟩
  · intro r hr _
    refine ⟨[], rfl, ?_, ?_⟩
    · rw [List.nodup_cons]; exact ⟨List.not_mem_nil, List.nodup_nil⟩
    · intro t
      rw [List.mem_cons]
      exact ⟨fun q => q.elim (fun e => ⟨by omega, e⟩) (fun e => absurd e List.not_mem_nil), fun q => Or.inl q.2⟩
  · intro r hr _ u hu
    exact h3 r hr u hu
  · intro k a b k1 k4 ha _ hb _ _
    exact Or.inl (h4 _ (by omega) (by omega))
  · intro u _ _ hx
    exact absurd (Nat.zero_le u) hx
  · intro t u _ _ e
    have e' : t = u := e
    rw [e']; exact cc_rf u
  · exact fun p hp => absurd hp List.not_mem_nil
  · exact fun x y e => absurd e id
theorem xe_bg34 {post : SX → Prop} (hw : en_W T K F G) (hD : en_D T K F G a_kind a_first a_second)
    (kk : ∀ (c nx : Nat → Nat) (st ta to pa pb : Nat → Int32), en_M T K F G (fun _ => False) (fun _ _ => False) c nx [] st → post (nI T, f_atoms, f_clauses, f_depth, 0, 0, f_known, f_count, f_always, f_ever, f_fewest, f_most, f_askA, f_askB, f_together, a_kind, a_first, a_second, a_left, a_right, a_yes, a_no, a_stack, st, ta, to, pa, pb, a_found, a_says, a_mark)) :
    ∀ (d i n : Nat) (st : Nat → Int32), i + d = T → d < n → bg_I K F G i st →
    wX_begin_34 post (nI T) f_atoms f_clauses f_depth 0 0 f_known f_count f_always f_ever f_fewest f_most f_askA f_askB f_together n (nI i) a_kind a_first a_second a_left a_right a_yes a_no a_stack st a_trailAt a_trailOld a_pendingA a_pendingB a_found a_says a_mark
  | 0, i, n + 1, st, hi, hn, hI => by
    have hT := hw.1
    have e : i = T := by omega
    subst e
    exact br_t (nI_le (by omega) (by omega)) ⟨i + 1, xe_bg145 hw hD kk i 0 (i + 1) [] [] st a_trailAt a_trailOld a_pendingA a_pendingB (by omega) (by omega) (bg_M hw hI) (tr_R0 trivial) trivial (by simp) (by simp)⟩
  | d + 1, i, n + 1, st, hi, hn, hI => by
    have hT := hw.1
    have hd := hD i (by omega)
    have qk : a_kind (nI i).toNatClampNeg = nI (K i) := xe_r (by omega) hd.1
    have wi := hw.2 i (by omega)
    have ii : vp_in (nI i) 16 := vp_in_nI (by omega) (by decide)
    have b0 := bg_0 hw (show i < T by omega) hI
    refine br_f (nI_ge (by omega) (by omega)) (And.intro (xe_in0 (by omega) (by decide)) (nm_r (e' := upd st i (nI i)) (xe_u0 (by omega) (xe_s2 (tr_sn i (by omega)))) (And.intro (xe_in16 (by omega) (by decide)) (nm_r (e' := upd (upd st i (nI i)) (16 + i) (nI i)) (xe_u16 (by omega) (xe_s2 (tr_sn i (by omega)))) (And.intro (xe_in32 (by omega) (by decide)) (nm_r (e' := upd (upd (upd st i (nI i)) (16 + i) (nI i)) (32 + i) 0) (xe_u32 (by omega) xe_z0) (And.intro ii ?_)))))))
    generalize upd (upd (upd st i (nI i)) (16 + i) (nI i)) (32 + i) 0 = s1 at b0 ⊢
    obtain ⟨c1, c2, c3, c4⟩ := b0
    refine pk_eq (K i) 0 (fun z => ?_) (fun z => ?_) qk rfl (by omega) (by omega)
    · refine nm_r (nI_1 _) (xe_bg34 hw hD kk d (i + 1) n s1 (by omega) (by omega) ⟨c1, c2, fun r hr u hu => ?_, c4⟩)
      rw [c3 r hr u hu]
      constructor
      · rintro ⟨q1, q2⟩; exact ⟨by omega, q2⟩
      · rintro ⟨q1, q2⟩; exact ⟨by have : u ≠ i := fun e => q2.1 (by rw [e]; exact z)
                                   omega, q2⟩
    · have fi := wi.2.1 z
      have qf : a_first (nI i).toNatClampNeg = nI (F i) := xe_r (by omega) (hd.2.1 z)
      have a1 := bg_add (show i < 16 by omega) (show F i < 16 by omega) c1 c2 c3 c4
      rw [qf]
      have rf : s1 ((32 : Int32) + nI (F i)).toNatClampNeg = s1 (32 + F i) := xe_r32 (by omega) rfl
      refine And.intro ii (And.intro (xe_in32 (by omega) (by decide)) (And.intro (xe_in32 (by omega) (by decide)) (nm_r (e' := upd s1 (32 + F i) (s1 (32 + F i) ||| ((1 : Int32) <<< (nI i &&& 31))).toInt16.toInt32) (xe_u32 (by omega) (by rw [rf, pk_vs])) (And.intro ii ?_))))
      generalize upd s1 (32 + F i) (s1 (32 + F i) ||| ((1 : Int32) <<< (nI i &&& 31))).toInt16.toInt32 = s2 at a1 ⊢
      obtain ⟨d1, d2, d3, d4⟩ := a1
      refine pk_eq (K i) 2 (fun y => ?_) (fun y => ?_) qk rfl (by omega) (by omega)
      · have gi := wi.2.2 y
        have qg : a_second (nI i).toNatClampNeg = nI (G i) := xe_r (by omega) (hd.2.2 y)
        have a2 := bg_add (show i < 16 by omega) (show G i < 16 by omega) d1 d2 d3 d4
        rw [qg]
        have rg : s2 ((32 : Int32) + nI (G i)).toNatClampNeg = s2 (32 + G i) := xe_r32 (by omega) rfl
        refine And.intro ii (And.intro (xe_in32 (by omega) (by decide)) (And.intro (xe_in32 (by omega) (by decide)) (nm_r (e' := upd s2 (32 + G i) (s2 (32 + G i) ||| ((1 : Int32) <<< (nI i &&& 31))).toInt16.toInt32) (xe_u32 (by omega) (by rw [rg, pk_vs])) (nm_r (nI_1 _) ?_))))
        generalize upd s2 (32 + G i) (s2 (32 + G i) ||| ((1 : Int32) <<< (nI i &&& 31))).toInt16.toInt32 = s3 at a2 ⊢
        obtain ⟨f1, f2, f3, f4⟩ := a2
        refine xe_bg34 hw hD kk d (i + 1) n s3 (by omega) (by omega) ⟨f1, f2, fun r hr u hu => ?_, f4⟩
        rw [f3 r hr u hu]
        constructor
        · rintro ((⟨q1, q2⟩ | ⟨q1, q2⟩) | ⟨q1, q2⟩)
          · exact ⟨by omega, q2⟩
          · subst q2; exact ⟨by omega, z, Or.inl q1.symm⟩
          · subst q2; exact ⟨by omega, z, Or.inr ⟨y, q1.symm⟩⟩
        · rintro ⟨q1, q2, q3⟩
          by_cases e : u = i
          · subst e
            rcases q3 with q3 | q3
            · exact Or.inl (Or.inr ⟨q3.symm, rfl⟩)
            · exact Or.inr ⟨q3.2.symm, rfl⟩
          · exact Or.inl (Or.inl ⟨by omega, q2, q3⟩)
      · refine nm_r (nI_1 _) (xe_bg34 hw hD kk d (i + 1) n s2 (by omega) (by omega) ⟨d1, d2, fun r hr u hu => ?_, d4⟩)
        rw [d3 r hr u hu]
        constructor
        · rintro (⟨q1, q2⟩ | ⟨q1, q2⟩)
          · exact ⟨by omega, q2⟩
          · subst q2; exact ⟨by omega, z, Or.inl q1.symm⟩
        · rintro ⟨q1, q2, q3⟩
          by_cases e : u = i
          · subst e
            rcases q3 with q3 | q3
            · exact Or.inr ⟨q3.symm, rfl⟩
            · exact absurd q3.1 y
          · exact Or.inl ⟨by omega, q2, q3⟩
theorem xe_bg12 {post : SX → Prop} (hw : en_W T K F G) (hD : en_D T K F G a_kind a_first a_second)
    (kk : ∀ (c nx : Nat → Nat) (st ta to pa pb : Nat → Int32), en_M T K F G (fun _ => False) (fun _ _ => False) c nx [] st → post (nI T, f_atoms, f_clauses, f_depth, 0, 0, f_known, f_count, f_always, f_ever, f_fewest, f_most, f_askA, f_askB, f_together, a_kind, a_first, a_second, a_left, a_right, a_yes, a_no, a_stack, st, ta, to, pa, pb, a_found, a_says, a_mark)) :
    ∀ (d i n : Nat) (st : Nat → Int32), i + d = 816 → d < n → (∀ j, j < i → st j = -1) →
    wX_begin_12 post (nI T) f_atoms f_clauses f_depth 0 0 f_known f_count f_always f_ever f_fewest f_most f_askA f_askB f_together n (nI i) a_kind a_first a_second a_left a_right a_yes a_no a_stack st a_trailAt a_trailOld a_pendingA a_pendingB a_found a_says a_mark
  | 0, i, n + 1, st, hi, hn, hI => by
    refine br_t (nI_le (a := 816) (b := i) (by omega) (by omega)) ⟨T + 1, xe_bg34 hw hD kk T 0 (T + 1) st (by omega) (by omega) ⟨fun j hj => ?_, fun t ht => absurd ht (Nat.not_lt_zero t), fun r hr => absurd hr (Nat.not_lt_zero r), fun j a b => hI j (by omega)⟩⟩
    rw [hI j (by omega)]; unfold tr_s; decide
  | d + 1, i, n + 1, st, hi, hn, hI => by
    refine br_f (nI_ge (a := i) (b := 816) (by omega) (by omega)) (And.intro (vp_in_nI (by omega) (by decide)) (nm_r (xe_u (by omega) xe_m1) (nm_r (nI_1 _) (xe_bg12 hw hD kk d (i + 1) n (upd st i (-1)) (by omega) (by omega) (fun j hj => ?_)))))
    by_cases z : j = i
    · rw [z, pk_us]
    · rw [pk_un z]; exact hI j (by omega)
theorem xe_begin {post : SX → Prop} (hw : en_W T K F G) (hD : en_D T K F G a_kind a_first a_second)
    (kk : ∀ (c nx : Nat → Nat) (st ta to pa pb : Nat → Int32), en_M T K F G (fun _ => False) (fun _ _ => False) c nx [] st → post (nI T, f_atoms, f_clauses, f_depth, 0, 0, f_known, f_count, f_always, f_ever, f_fewest, f_most, f_askA, f_askB, f_together, a_kind, a_first, a_second, a_left, a_right, a_yes, a_no, a_stack, st, ta, to, pa, pb, a_found, a_says, a_mark)) :
    wpX_begin post (nI T, f_atoms, f_clauses, f_depth, f_trail, f_pending, f_known, f_count, f_always, f_ever, f_fewest, f_most, f_askA, f_askB, f_together, a_kind, a_first, a_second, a_left, a_right, a_yes, a_no, a_stack, a_state, a_trailAt, a_trailOld, a_pendingA, a_pendingB, a_found, a_says, a_mark) :=
  ⟨817, xe_bg12 hw hD kk 816 0 817 a_state (by omega) (by omega) (fun j hj => absurd hj (Nat.not_lt_zero j))⟩
end
end
section
/-! ways and literals (pure), X: equate, follows, classesNow, decide -/
def aw_E (A : Nat) (L R : Nat → Nat) (P : Nat → Prop) (x y : Nat) : Prop := ∃ a, a < A ∧ P a ∧ x = L a ∧ y = R a
def aw_W (T A : Nat) (L R : Nat → Nat) : Prop := A ≤ 8 ∧ ∀ a, a < A → L a < T ∧ R a < T
def aw_D (A : Nat) (L R : Nat → Nat) (al ar : Nat → Int32) : Prop := ∀ a, a < A → al a = nI (L a) ∧ ar a = nI (R a)
/-- what follows from the atoms of a way -/
def wy_E (A : Nat) (L R : Nat → Nat) (w : Nat) : Nat → Nat → Prop := aw_E A L R (fun i => w.testBit i = true)
def wy_C (T : Nat) (K F G : Nat → Nat) (A : Nat) (L R : Nat → Nat) (w : Nat) : Nat → Nat → Prop := cc_C T K F G (wy_E A L R w)
/-- a literal holds in a way -/
def wy_h (w s : Nat) : Prop := w / 2 ^ (s / 2) % 2 ≠ s % 2
/-- nothing contradicts the way's first l atoms -/
def ok_P (T : Nat) (K F G : Nat → Nat) (A : Nat) (L R : Nat → Nat) (C : Nat) (hs : Nat → Nat → Prop) (H : Nat) (S : Nat → Nat) (l w : Nat) : Prop :=
  (∀ a, a < l → wy_C T K F G A L R w (L a) (R a) → w.testBit a = true) ∧ (∀ k, k < H → S k / 2 < l → wy_h w (S k)) ∧ (∀ i, i < C → ∃ q, hs i q ∧ (l ≤ q / 2 ∨ wy_h w q))
/-- the clauses as the component keeps them -/
def cw_X (C : Nat) (hs : Nat → Nat → Prop) (ay an : Nat → Int32) : Prop := ∀ i, i < C → ∀ a, a < 8 → (bt (ay i) a = true ↔ hs i (2 * a)) ∧ (bt (an i) a = true ↔ hs i (2 * a + 1))
def cw_W (A C : Nat) (hs : Nat → Nat → Prop) : Prop := C ≤ 12 ∧ ∀ i, i < C → (∀ q, hs i q → q < 2 * A) ∧ ∃ q, hs i q
def sw_W (A H : Nat) (S : Nat → Nat) : Prop := H ≤ 8 ∧ ∀ k, k < H → S k < 2 * A
def sw_D (H : Nat) (S : Nat → Nat) (as : Nat → Int32) : Prop := ∀ k, k < H → as k = nI (S k)
theorem wt_1 {w a : Nat} : w.testBit a = true ↔ w / 2 ^ a % 2 = 1 := by
  rw [Nat.testBit_eq_decide_div_mod_eq, decide_eq_true_eq]
theorem wt_0 {w a : Nat} : w.testBit a = false ↔ w / 2 ^ a % 2 = 0 := by
  rw [Nat.testBit_eq_decide_div_mod_eq, decide_eq_false_iff_not]
  omega
theorem wh_e {w a : Nat} : wy_h w (2 * a) ↔ w.testBit a = true := by
  unfold wy_h
  rw [wt_1, show 2 * a / 2 = a by omega, show 2 * a % 2 = 0 by omega]
  omega
theorem wh_o {w a : Nat} : wy_h w (2 * a + 1) ↔ w.testBit a = false := by
  unfold wy_h
  rw [wt_0, show (2 * a + 1) / 2 = a by omega, show (2 * a + 1) % 2 = 1 by omega]
  omega
theorem bw_n {w i : Nat} (hi : i < 32) : bt (nI w) i = w.testBit i := by
  show (BitVec.ofNat 32 w).getLsbD i = _
  rw [BitVec.getLsbD_ofNat, decide_eq_true hi, Bool.true_and]
theorem bw_at {w a : Nat} (hw : w < 2 ^ 31) (ha : a < 32) : (nI w >>> (nI a &&& 31)) &&& 1 = nI (w / 2 ^ a % 2) := by
  rw [pk_shrN hw _ a (s_l a ha)]
  exact pk_andN (n := w / 2 ^ a) (Nat.lt_of_le_of_lt (Nat.div_le_self _ _) (by omega)) 1 (by decide)
theorem bw_s1 {s : Nat} (hs : s < 2 ^ 31) : nI s >>> ((1 : Int32) &&& 31) = nI (s / 2) := pk_shrN hs _ 1 (by decide)
theorem bw_a1 {s : Nat} (hs : s < 2 ^ 31) : nI s &&& 1 = nI (s % 2) := pk_andN (n := s) (by omega) 1 (by decide)
theorem bw_pw : ∀ a, a < 16 → (1 : Int32) <<< (nI a &&& 31) = nI (2 ^ a) := by decide +kernel
/-- the bits that are still to come -/
theorem bw_rest : ∀ l, l < 8 → ∀ i, i < 32 → bt (((255 : Int32) <<< ((nI l + 1) &&& 31)) &&& 255) i = decide (l < i ∧ i < 8) := by decide +kernel
theorem bw_big {w : Nat} (hw : w < 256) {i : Nat} (hi : 8 ≤ i) : w.testBit i = false :=
  Nat.testBit_lt_two_pow (Nat.lt_of_lt_of_le hw (Nat.pow_le_pow_right (n := 2) (by decide) hi))
/-- the clause's test -/
theorem bw_cl {y n : Int32} {w l : Nat} (hw : w < 256) (hl : l < 8) {h : Nat → Prop} (hh : ∀ q, h q → q < 16) (e : ∀ a, a < 8 → (bt y a = true ↔ h (2 * a)) ∧ (bt n a = true ↔ h (2 * a + 1))) {x5 : Int32} (e5 : x5 = ((255 : Int32) <<< ((nI l + 1) &&& 31)) &&& 255) :
    ((y &&& (nI w ||| x5)) ||| ((n &&& ((nI w ^^^ (-1)) ||| x5)) &&& 255)) = 0 ↔ ¬ ∃ q, h q ∧ (l + 1 ≤ q / 2 ∨ wy_h w q) := by
  have bit : ∀ i, i < 32 → bt ((y &&& (nI w ||| x5)) ||| ((n &&& ((nI w ^^^ (-1)) ||| x5)) &&& 255)) i = ((bt y i && (w.testBit i || decide (l < i ∧ i < 8))) || ((bt n i && ((! w.testBit i) || decide (l < i ∧ i < 8))) && decide (i < 8))) := by
    intro i hi
    rw [b_or, b_and, b_or, b_and, b_and, b_or, b_xor, b_255, b_m1 i hi, bw_n hi, e5, bw_rest l hl i hi, Bool.xor_true]
  rw [xb_z]
  constructor
  · rintro g ⟨q, q1, q2⟩
    have q16 := hh q q1
    have z := g (q / 2) (by omega)
    rw [bit _ (by omega)] at z
    rcases Nat.mod_two_eq_zero_or_one q with p | p
    · have eq : q = 2 * (q / 2) := by omega
      have y1 : bt y (q / 2) = true := ((e (q / 2) (by omega)).1).mpr (by rw [← eq]; exact q1)
      have t1 : (w.testBit (q / 2) || decide (l < q / 2 ∧ q / 2 < 8)) = true := by
        rw [Bool.or_eq_true, decide_eq_true_eq]
        rcases q2 with q2 | q2
        · exact Or.inr ⟨by omega, by omega⟩
        · rw [eq, wh_e] at q2; exact Or.inl q2
      rw [y1, t1] at z
      exact absurd z (by simp)
    · have eq : q = 2 * (q / 2) + 1 := by omega
      have y1 : bt n (q / 2) = true := ((e (q / 2) (by omega)).2).mpr (by rw [← eq]; exact q1)
      have t1 : ((! w.testBit (q / 2)) || decide (l < q / 2 ∧ q / 2 < 8)) = true := by
        rw [Bool.or_eq_true, decide_eq_true_eq]
        rcases q2 with q2 | q2
        · exact Or.inr ⟨by omega, by omega⟩
        · rw [eq, wh_o] at q2; rw [q2]; exact Or.inl rfl
      rw [y1, t1, decide_eq_true (show q / 2 < 8 by omega)] at z
      exact absurd z (by simp)
  · intro g i hi
    rw [bit i hi]
    by_cases i8 : i < 8
    · have a1 : (bt y i && (w.testBit i || decide (l < i ∧ i < 8))) = false := by
        rw [Bool.eq_false_iff]
        intro z
        rw [Bool.and_eq_true, Bool.or_eq_true, decide_eq_true_eq] at z
        refine g ⟨2 * i, ((e i i8).1).mp z.1, ?_⟩
        rcases z.2 with z | z
        · exact Or.inr (wh_e.mpr z)
        · exact Or.inl (by omega)
      have a2 : (bt n i && ((! w.testBit i) || decide (l < i ∧ i < 8))) = false := by
        rw [Bool.eq_false_iff]
        intro z
        rw [Bool.and_eq_true, Bool.or_eq_true, decide_eq_true_eq] at z
        refine g ⟨2 * i + 1, ((e i i8).2).mp z.1, ?_⟩
        rcases z.2 with z | z
        · refine Or.inr (wh_o.mpr ?_)
          cases hh : w.testBit i
          · rfl
          · rw [hh] at z; exact absurd z (by decide)
        · exact Or.inl (by omega)
      rw [a1, a2]; rfl
    · rw [decide_eq_false i8, Bool.and_false, bw_big hw (by omega), decide_eq_false (fun z => i8 z.2)]
      simp
section
variable {f_terms f_atoms f_clauses f_depth f_trail f_pending f_known f_count f_always f_ever f_fewest f_most f_askA f_askB f_together : Int32} {a_kind a_first a_second a_left a_right a_yes a_no a_stack a_state a_trailAt a_trailOld a_pendingA a_pendingB a_says a_mark : Nat → Int32} {a_found : Nat → Int64}
variable {T : Nat} {K F G c nx : Nat → Nat} {E E' : Nat → Nat → Prop} {W0 W : List (Nat × Int32)} {s0 : Nat → Int32} {A : Nat} {L R : Nat → Nat} {C : Nat} {hs : Nat → Nat → Prop} {H : Nat} {S : Nat → Nat}
theorem en_ext {X : Nat → Prop} {st : Nat → Int32} {p q : Nat} (h : en_M T K F G X E c nx [] st) (h1 : ∀ x y, E x y → E' x y) (h2 : ∀ x y, E' x y → E x y ∨ (x = p ∧ y = q)) (h3 : E' p q) : en_M T K F G X E' c nx [(p, q)] st := by
  obtain ⟨hS, hC, hR, hU, hA, hB, hL1, hL2, hL3⟩ := h
  have up : ∀ {x y : Nat}, cc_E T c [] x y → cc_E T c [(p, q)] x y := fun h => cc_Ele (fun t u a b d => cc_Ec a b d) (fun r hr => absurd hr List.not_mem_nil) h
  refine ⟨hS, hC, hR, hU, hA, fun u a b d => ?_, fun t u a b d => cc_mono h1 (hL1 t u a b d), fun r hr => ?_, fun x y e => ?_⟩
  · obtain ⟨w, w1, w2, w3⟩ := hB u a b d
    exact ⟨w, w1, w2, up w3⟩
  · rcases List.mem_cons.mp hr with z | z
    · rw [z]; exact cc_in h3
    · exact absurd z List.not_mem_nil
  · rcases h2 x y e with z | z
    · exact up (hL3 x y z)
    · rw [z.1, z.2]; exact cc_Ep (p := (p, q)) List.mem_cons_self
theorem xe_equate {post : SX → Prop} (hw : en_W T K F G) (hD : en_D T K F G a_kind a_first a_second) (hA : aw_W T A L R) (hB : aw_D A L R a_left a_right) {a : Nat} (ha : a < A) (hM : en_M T K F G (fun _ => False) E c nx [] a_state) (hR : tr_R W0 s0 W a_state a_trailAt a_trailOld) (h1 : W.length + 35 * ct_n (fun t => c t = t) T ≤ 600) (e1 : ∀ x y, E x y → E' x y) (e2 : ∀ x y, E' x y → E x y ∨ (x = L a ∧ y = R a)) (e3 : E' (L a) (R a))
    (kk : ∀ (c' nx' : Nat → Nat) (W' : List (Nat × Int32)) (st' ta' to' pa' pb' : Nat → Int32), en_M T K F G (fun _ => False) E' c' nx' [] st' → tr_R W0 s0 W' st' ta' to' → W'.length + 35 * ct_n (fun t => c' t = t) T ≤ 600 → post (nI T, f_atoms, f_clauses, f_depth, nI W'.length, 0, f_known, f_count, f_always, f_ever, f_fewest, f_most, f_askA, f_askB, f_together, a_kind, a_first, a_second, a_left, a_right, a_yes, a_no, a_stack, st', ta', to', pa', pb', a_found, a_says, a_mark)) :
    wpX_equate post (nI T, f_atoms, f_clauses, f_depth, nI W.length, 0, f_known, f_count, f_always, f_ever, f_fewest, f_most, f_askA, f_askB, f_together, a_kind, a_first, a_second, a_left, a_right, a_yes, a_no, a_stack, a_state, a_trailAt, a_trailOld, a_pendingA, a_pendingB, a_found, a_says, a_mark) (nI a) := by
  have hT := hw.1
  have h8 := hA.1
  have hlr := hA.2 a ha
  have ql : a_left (nI a).toNatClampNeg = nI (L a) := xe_r (by omega) (hB a ha).1
  have qr : a_right (nI a).toNatClampNeg = nI (R a) := xe_r (by omega) (hB a ha).2
  have hn := ct_le (fun t => c t = t) T
  unfold wpX_equate
  dsimp only
  rw [ql, qr]
  refine And.intro (vp_in_nI (by omega) (by decide)) (And.intro (vp_in_nI (by omega) (by decide)) ?_)
  refine xe_later (m := 0) (by omega) (by omega) (by omega) ?_
  exact xe_join (Q := [(L a, R a)]) hw hD (en_ext hM e1 e2 e3) hR (pd_push (Q := []) (pa := a_pendingA) (pb := a_pendingB) trivial hlr.1 hlr.2) h1 (by simp only [List.length_cons, List.length_nil]; omega) kk
theorem xe_follows {post : Int32 → Prop} (hT : T ≤ 16) (hA : aw_W T A L R) (hB : aw_D A L R a_left a_right) {a : Nat} (ha : a < A) (hC : en_C T c nx a_state) (k1 : c (L a) = c (R a) → post 1) (k0 : ¬ c (L a) = c (R a) → post 0) : wpX_follows post (f_terms, f_atoms, f_clauses, f_depth, f_trail, f_pending, f_known, f_count, f_always, f_ever, f_fewest, f_most, f_askA, f_askB, f_together, a_kind, a_first, a_second, a_left, a_right, a_yes, a_no, a_stack, a_state, a_trailAt, a_trailOld, a_pendingA, a_pendingB, a_found, a_says, a_mark) (nI a) := by
  have h8 := hA.1
  have hlr := hA.2 a ha
  have ql : a_left (nI a).toNatClampNeg = nI (L a) := xe_r (by omega) (hB a ha).1
  have qr : a_right (nI a).toNatClampNeg = nI (R a) := xe_r (by omega) (hB a ha).2
  have cl := hC (L a) hlr.1
  have cr := hC (R a) hlr.2
  have ai : vp_in (nI a) 8 := vp_in_nI (by omega) (by decide)
  unfold wpX_follows
  dsimp only
  rw [ql, qr]
  exact And.intro ai (And.intro (xe_in0 (by omega) (by decide)) (And.intro ai (And.intro (xe_in0 (by omega) (by decide)) (pk_eq (c (L a)) (c (R a)) k1 k0 (xe_r0 (by omega) cl.1) (xe_r0 (by omega) cr.1) (by omega) (by omega)))))
theorem xe_cn0 {post : Int32 → Prop} (hT : T ≤ 16) (hC : en_C T c nx a_state) (kk : post (nI (ct_n (fun t => c t = t) T))) : ∀ (d i n : Nat), i + d = T → d < n → wX_classesNow_4 post (nI T) f_atoms f_clauses f_depth f_trail f_pending f_known f_count f_always f_ever f_fewest f_most f_askA f_askB f_together a_kind a_first a_second a_left a_right a_yes a_no a_stack a_state a_trailAt a_trailOld a_pendingA a_pendingB a_found a_says a_mark n (nI (ct_n (fun t => c t = t) i)) (nI i)
  | 0, i, n + 1, hi, hn => by
    have e : i = T := by omega
    subst e
    exact br_t (nI_le (by omega) (by omega)) kk
  | d + 1, i, n + 1, hi, hn => by
    have ci := hC i (by omega)
    have ih := xe_cn0 hT hC kk d (i + 1) n (by omega) (by omega)
    refine br_f (nI_ge (by omega) (by omega)) (And.intro (xe_in0 (by omega) (by decide)) (pk_eq (c i) i (fun z => ?_) (fun z => ?_) (xe_r0 (by omega) ci.1) rfl (by omega) (by omega)))
    · have e : ct_n (fun t => c t = t) (i + 1) = ct_n (fun t => c t = t) i + 1 := by
        show ct_n (fun t => c t = t) i + ct_b (c i = i) = _
        rw [ct_b1 z]
      rw [e] at ih
      exact nm_r (nI_1 _) (nm_r (nI_1 _) ih)
    · have e : ct_n (fun t => c t = t) (i + 1) = ct_n (fun t => c t = t) i := by
        show ct_n (fun t => c t = t) i + ct_b (c i = i) = _
        rw [ct_b0 z]; rfl
      rw [e] at ih
      exact nm_r (nI_1 _) ih
theorem xe_cn {post : Int32 → Prop} (hT : T ≤ 16) (hC : en_C T c nx a_state) (kk : post (nI (ct_n (fun t => c t = t) T))) : wpX_classesNow post (nI T, f_atoms, f_clauses, f_depth, f_trail, f_pending, f_known, f_count, f_always, f_ever, f_fewest, f_most, f_askA, f_askB, f_together, a_kind, a_first, a_second, a_left, a_right, a_yes, a_no, a_stack, a_state, a_trailAt, a_trailOld, a_pendingA, a_pendingB, a_found, a_says, a_mark) :=
  ⟨T + 1, xe_cn0 hT hC kk T 0 (T + 1) (by omega) (by omega)⟩
/-- the clauses' loop of decide -/
theorem xd_152 {post : Int32 → SX → Prop} {l w : Nat} (hl : l < A) (hA8 : A ≤ 8) (hw : w < 256) (hc : cw_W A C hs) (hx : cw_X C hs a_yes a_no) {x5 : Int32} (e5 : x5 = ((255 : Int32) <<< ((nI l + 1) &&& 31)) &&& 255) (k1 : (∀ i, i < C → ∃ q, hs i q ∧ (l + 1 ≤ q / 2 ∨ wy_h w q)) → post 1 (f_terms, f_atoms, nI C, f_depth, f_trail, f_pending, f_known, f_count, f_always, f_ever, f_fewest, f_most, f_askA, f_askB, f_together, a_kind, a_first, a_second, a_left, a_right, a_yes, a_no, a_stack, a_state, a_trailAt, a_trailOld, a_pendingA, a_pendingB, a_found, a_says, a_mark)) (k0 : ¬ (∀ i, i < C → ∃ q, hs i q ∧ (l + 1 ≤ q / 2 ∨ wy_h w q)) → post 0 (f_terms, f_atoms, nI C, f_depth, f_trail, f_pending, f_known, f_count, f_always, f_ever, f_fewest, f_most, f_askA, f_askB, f_together, a_kind, a_first, a_second, a_left, a_right, a_yes, a_no, a_stack, a_state, a_trailAt, a_trailOld, a_pendingA, a_pendingB, a_found, a_says, a_mark)) :
    ∀ (d i n : Nat), i + d = C → d < n → (∀ j, j < i → ∃ q, hs j q ∧ (l + 1 ≤ q / 2 ∨ wy_h w q)) → wX_decide_152 post (nI w) x5 f_terms f_atoms (nI C) f_depth f_trail f_pending f_known f_count f_always f_ever f_fewest f_most f_askA f_askB f_together a_kind a_first a_second a_left a_right a_yes a_no a_stack a_state a_trailAt a_trailOld a_pendingA a_pendingB a_found a_says a_mark n (nI i)
  | 0, i, n + 1, hi, hn, hj => by
    have e : i = C := by omega
    subst e
    have := hc.1
    exact br_t (nI_le (by omega) (by omega)) (k1 hj)
  | d + 1, i, n + 1, hi, hn, hj => by
    have h12 := hc.1
    have key := bw_cl (y := a_yes i) (n := a_no i) (h := hs i) hw (show l < 8 by omega) (fun q hq => by have := (hc.2 i (by omega)).1 q hq; omega) (hx i (by omega)) e5
    have ii : vp_in (nI i) 12 := vp_in_nI (by omega) (by decide)
    have ry : a_yes (nI i).toNatClampNeg = a_yes i := xe_r (by omega) rfl
    have rn : a_no (nI i).toNatClampNeg = a_no i := xe_r (by omega) rfl
    refine br_f (nI_ge (by omega) (by omega)) (And.intro ii (And.intro ii ?_))
    rw [ry, rn]
    refine br_c (fun z => k0 (fun g => key.mp z (g i (by omega)))) (fun z => nm_r (nI_1 _) (xd_152 hl hA8 hw hc hx e5 k1 k0 d (i + 1) n (by omega) (by omega) (fun j hjj => ?_)))
    by_cases y : j = i
    · rw [y]; exact Classical.not_not.mp (fun g => z (key.mpr g))
    · exact hj j (by omega)
/-- the stack's loop of decide -/
theorem xd_83 {post : Int32 → SX → Prop} {l w : Nat} (hl : l < A) (hA8 : A ≤ 8) (hw : w < 256) (hc : cw_W A C hs) (hx : cw_X C hs a_yes a_no) (hS : sw_W A H S) (hSD : sw_D H S a_stack) (k1 : (∀ k, k < H → S k / 2 < l + 1 → wy_h w (S k)) → (∀ i, i < C → ∃ q, hs i q ∧ (l + 1 ≤ q / 2 ∨ wy_h w q)) → post 1 (f_terms, f_atoms, nI C, nI H, f_trail, f_pending, f_known, f_count, f_always, f_ever, f_fewest, f_most, f_askA, f_askB, f_together, a_kind, a_first, a_second, a_left, a_right, a_yes, a_no, a_stack, a_state, a_trailAt, a_trailOld, a_pendingA, a_pendingB, a_found, a_says, a_mark)) (k0 : ¬ ((∀ k, k < H → S k / 2 < l + 1 → wy_h w (S k)) ∧ (∀ i, i < C → ∃ q, hs i q ∧ (l + 1 ≤ q / 2 ∨ wy_h w q))) → post 0 (f_terms, f_atoms, nI C, nI H, f_trail, f_pending, f_known, f_count, f_always, f_ever, f_fewest, f_most, f_askA, f_askB, f_together, a_kind, a_first, a_second, a_left, a_right, a_yes, a_no, a_stack, a_state, a_trailAt, a_trailOld, a_pendingA, a_pendingB, a_found, a_says, a_mark)) :
    ∀ (d i n : Nat), i + d = H → d < n → (∀ k, k < i → S k / 2 < l + 1 → wy_h w (S k)) → wX_decide_83 post (nI l) (nI w) f_terms f_atoms (nI C) (nI H) f_trail f_pending f_known f_count f_always f_ever f_fewest f_most f_askA f_askB f_together a_kind a_first a_second a_left a_right a_yes a_no a_stack a_state a_trailAt a_trailOld a_pendingA a_pendingB a_found a_says a_mark n (nI i)
  | 0, i, n + 1, hi, hn, hj => by
    have e : i = H := by omega
    subst e
    have := hS.1
    exact br_t (nI_le (by omega) (by omega)) (nm_e ⟨C + 1, xd_152 hl hA8 hw hc hx rfl (fun g => k1 hj g) (fun g => k0 (fun z => g z.2)) C 0 (C + 1) (by omega) (by omega) (fun j hj => absurd hj (Nat.not_lt_zero j))⟩)
  | d + 1, i, n + 1, hi, hn, hj => by
    have h8 := hS.1
    have hs := hS.2 i (by omega)
    have ii : vp_in (nI i) 8 := vp_in_nI (by omega) (by decide)
    have rs : a_stack (nI i).toNatClampNeg = nI (S i) := xe_r (by omega) (hSD i (by omega))
    refine br_f (nI_ge (by omega) (by omega)) (And.intro ii ?_)
    rw [rs]
    refine nm_r (e' := nI (S i / 2)) (bw_s1 (by omega)) (pk_lt l (S i / 2) (fun z => ?_) (fun z => ?_) rfl rfl (by omega) (by omega))
    · refine nm_r (nI_1 _) (xd_83 hl hA8 hw hc hx hS hSD k1 k0 d (i + 1) n (by omega) (by omega) (fun k hk hk2 => ?_))
      by_cases y : k = i
      · rw [y] at hk2; omega
      · exact hj k (by omega) hk2
    · refine And.intro ii ?_
      rw [bw_at (by omega) (by omega), bw_a1 (by omega)]
      refine pk_eq _ _ (fun y => ?_) (fun y => ?_) rfl rfl (by omega) (by omega)
      · exact k0 (fun g => (g.1 i (by omega) (by omega)) y)
      · refine nm_r (nI_1 _) (xd_83 hl hA8 hw hc hx hS hSD k1 k0 d (i + 1) n (by omega) (by omega) (fun k hk hk2 => ?_))
        by_cases x : k = i
        · rw [x]; exact y
        · exact hj k (by omega) hk2
/-- the atoms' loop of decide -/
theorem xd_43 {post : Int32 → SX → Prop} {l w : Nat} (hT : T ≤ 16) (hAW : aw_W T A L R) (hAD : aw_D A L R a_left a_right) (hC : en_C T c nx a_state) (hl : l < A) (hw : w < 256) (hc : cw_W A C hs) (hx : cw_X C hs a_yes a_no) (hS : sw_W A H S) (hSD : sw_D H S a_stack) (k1 : (∀ a, a < l + 1 → c (L a) = c (R a) → w.testBit a = true) → (∀ k, k < H → S k / 2 < l + 1 → wy_h w (S k)) → (∀ i, i < C → ∃ q, hs i q ∧ (l + 1 ≤ q / 2 ∨ wy_h w q)) → post 1 (f_terms, f_atoms, nI C, nI H, f_trail, f_pending, f_known, f_count, f_always, f_ever, f_fewest, f_most, f_askA, f_askB, f_together, a_kind, a_first, a_second, a_left, a_right, a_yes, a_no, a_stack, a_state, a_trailAt, a_trailOld, a_pendingA, a_pendingB, a_found, a_says, a_mark)) (k0 : ¬ ((∀ a, a < l + 1 → c (L a) = c (R a) → w.testBit a = true) ∧ (∀ k, k < H → S k / 2 < l + 1 → wy_h w (S k)) ∧ (∀ i, i < C → ∃ q, hs i q ∧ (l + 1 ≤ q / 2 ∨ wy_h w q))) → post 0 (f_terms, f_atoms, nI C, nI H, f_trail, f_pending, f_known, f_count, f_always, f_ever, f_fewest, f_most, f_askA, f_askB, f_together, a_kind, a_first, a_second, a_left, a_right, a_yes, a_no, a_stack, a_state, a_trailAt, a_trailOld, a_pendingA, a_pendingB, a_found, a_says, a_mark)) :
    ∀ (d i n : Nat), i + d = l + 1 → d < n → (∀ a, a < i → c (L a) = c (R a) → w.testBit a = true) → wX_decide_43 post (nI l) (nI w) f_terms f_atoms (nI C) (nI H) f_trail f_pending f_known f_count f_always f_ever f_fewest f_most f_askA f_askB f_together a_kind a_first a_second a_left a_right a_yes a_no a_stack a_state a_trailAt a_trailOld a_pendingA a_pendingB a_found a_says a_mark n (nI i)
  | 0, i, n + 1, hi, hn, hj => by
    have h8 := hAW.1
    have e : i = l + 1 := by omega
    subst e
    exact br_t (nI_lt (by omega) (by omega)) ⟨H + 1, xd_83 hl h8 hw hc hx hS hSD (fun g1 g2 => k1 hj g1 g2) (fun g => k0 (fun z => g z.2)) H 0 (H + 1) (by omega) (by omega) (fun j hj => absurd hj (Nat.not_lt_zero j))⟩
  | d + 1, i, n + 1, hi, hn, hj => by
    have h8 := hAW.1
    refine br_f (nI_nlt (by omega) (by omega)) (xe_follows hT hAW hAD (show i < A by omega) hC (fun z => ?_) (fun z => ?_))
    · refine br_f (by decide) ?_
      rw [bw_at (by omega) (by omega)]
      refine pk_eq (w / 2 ^ i % 2) 0 (fun y => ?_) (fun y => ?_) rfl rfl (by omega) (by omega)
      · refine k0 (fun g => ?_)
        have := wt_1.mp (g.1 i (by omega) z)
        omega
      · refine nm_r (nI_1 _) (xd_43 hT hAW hAD hC hl hw hc hx hS hSD k1 k0 d (i + 1) n (by omega) (by omega) (fun a ha e => ?_))
        by_cases x : a = i
        · rw [x]; exact wt_1.mpr (by omega)
        · exact hj a (by omega) e
    · refine br_t rfl (nm_r (nI_1 _) (xd_43 hT hAW hAD hC hl hw hc hx hS hSD k1 k0 d (i + 1) n (by omega) (by omega) (fun a ha e => ?_)))
      by_cases x : a = i
      · rw [x] at e; exact absurd e z
      · exact hj a (by omega) e
end
end
section
/-! X: decide, meet -/
def bl_t (x : Int64) (i : Nat) : Bool := x.toBitVec.getLsbD i
theorem bl_z {x : Int64} : x = 0 ↔ ∀ i, i < 64 → bl_t x i = false :=
  ⟨fun e i _ => by rw [e]; exact BitVec.getLsbD_zero, fun h => Int64.toBitVec_inj.mp (BitVec.eq_of_getLsbD_eq fun i hi => (h i hi).trans BitVec.getLsbD_zero.symm)⟩
theorem bl_sl : ∀ k, k < 64 → (((nI k).toInt64 &&& 63).toBitVec.smod 64).toNat = k := by decide +kernel
theorem bl_or (x : Int64) {k i : Nat} (hk : k < 64) (hi : i < 64) : bl_t (x ||| ((1 : Int64) <<< ((nI k).toInt64 &&& 63))) i = (bl_t x i || decide (i = k)) := by
  have e : (1 : Int64) <<< ((nI k).toInt64 &&& 63) = lN (2 ^ k) := by
    have q := wb_shl 1 hk
    rw [Nat.one_mul] at q; exact q
  have d : decide (k = i) = decide (i = k) := decide_eq_decide.mpr ⟨Eq.symm, Eq.symm⟩
  rw [e]
  unfold bl_t
  rw [Int64.toBitVec_or, BitVec.getLsbD_or, wb_tb, BitVec.getLsbD_ofNat, decide_eq_true hi, Bool.true_and, Nat.testBit_two_pow, d]
theorem bl_shr (k : Nat) (hk : k < 64) (x : Int64) {i : Nat} (hi : i < 64) : bl_t (x >>> ((nI k).toInt64 &&& 63)) i = if k + i < 64 then bl_t x (k + i) else bl_t x 63 := by
  unfold bl_t
  rw [Int64.toBitVec_shiftRight]
  show (x.toBitVec.sshiftRight (((nI k).toInt64 &&& 63).toBitVec.smod 64).toNat).getLsbD i = _
  rw [bl_sl k hk, BitVec.getLsbD_sshiftRight, BitVec.msb_eq_getLsbD_last]
  simp [hi]
theorem bl_1 : ∀ i, i < 64 → i ≠ 0 → bl_t 1 i = false := by decide +kernel
theorem bl_bit (x : Int64) {k : Nat} (hk : k < 64) : ((x >>> ((nI k).toInt64 &&& 63)) &&& 1) = 0 ↔ bl_t x k = false := by
  have e1 : bl_t 1 0 = true := by decide +kernel
  have an : ∀ (y : Int64) (i : Nat), bl_t (y &&& 1) i = (bl_t y i && bl_t 1 i) := fun y i => by
    unfold bl_t; rw [Int64.toBitVec_and, BitVec.getLsbD_and]
  rw [bl_z]
  constructor
  · intro h
    have q := h 0 (by decide)
    rw [an, bl_shr k hk x (by decide), if_pos (by omega), e1, Bool.and_true] at q
    exact q
  · intro h i hi
    rw [an]
    by_cases z : i = 0
    · subst z
      rw [bl_shr k hk x (by decide), if_pos (by omega), e1, Bool.and_true]
      exact h
    · rw [bl_1 i hi z, Bool.and_false]
/-! a way with one atom more -/
theorem wp_tb {w l : Nat} (hw : w < 2 ^ l) (a : Nat) : (w + 2 ^ l).testBit a = (w.testBit a || decide (a = l)) := by
  rw [Nat.add_comm]
  rcases Nat.lt_trichotomy a l with z | z | z
  · rw [Nat.testBit_two_pow_add_gt z, decide_eq_false (by omega), Bool.or_false]
  · subst z
    rw [Nat.testBit_two_pow_add_eq, Nat.testBit_lt_two_pow hw, decide_eq_true rfl]; rfl
  · have p1 : 2 ^ (l + 1) ≤ 2 ^ a := Nat.pow_le_pow_right (by decide) (by omega)
    have p2 : 2 ^ (l + 1) = 2 * 2 ^ l := by rw [Nat.pow_succ]; omega
    rw [Nat.testBit_lt_two_pow (by omega), Nat.testBit_lt_two_pow (by omega), decide_eq_false (by omega)]; rfl
theorem wp_or {w l : Nat} (hw : w < 2 ^ l) (hl : l < 16) : nI w ||| ((1 : Int32) <<< (nI l &&& 31)) = nI (w + 2 ^ l) := by
  rw [bw_pw l hl]
  apply b_ext
  intro i hi
  have d : decide (l = i) = decide (i = l) := decide_eq_decide.mpr ⟨Eq.symm, Eq.symm⟩
  rw [b_or, bw_n hi, bw_n hi, bw_n hi, wp_tb hw, Nat.testBit_two_pow, d]
section
variable {f_terms f_atoms f_clauses f_depth f_trail f_pending f_known f_count f_always f_ever f_fewest f_most f_askA f_askB f_together : Int32} {a_kind a_first a_second a_left a_right a_yes a_no a_stack a_state a_trailAt a_trailOld a_pendingA a_pendingB a_says a_mark : Nat → Int32} {a_found : Nat → Int64}
variable {T : Nat} {K F G c nx : Nat → Nat} {E E' : Nat → Nat → Prop} {W0 W : List (Nat × Int32)} {s0 : Nat → Int32} {A : Nat} {L R : Nat → Nat} {C : Nat} {hs : Nat → Nat → Prop} {H : Nat} {S : Nat → Nat}
theorem wy_lt (hA : aw_W T A L R) {w : Nat} : ∀ x y, wy_E A L R w x y → x < T ∧ y < T := by
  rintro x y ⟨a, a1, _, a3, a4⟩
  have q := hA.2 a a1
  rw [a3, a4]; exact q
theorem ok_iff (hw : en_W T K F G) (hA : aw_W T A L R) {l w : Nat} (hl : l < A) {st : Nat → Int32} (hM : en_M T K F G (fun _ => False) (wy_E A L R w) c nx [] st) :
    ok_P T K F G A L R C hs H S (l + 1) w ↔ ((∀ a, a < l + 1 → c (L a) = c (R a) → w.testBit a = true) ∧ (∀ k, k < H → S k / 2 < l + 1 → wy_h w (S k)) ∧ (∀ i, i < C → ∃ q, hs i q ∧ (l + 1 ≤ q / 2 ∨ wy_h w q))) := by
  unfold ok_P
  constructor
  · rintro ⟨h1, h2, h3⟩
    exact ⟨fun a ha e => h1 a ha ((en_done hw (wy_lt hA) hM (hA.2 a (by omega)).1 (hA.2 a (by omega)).2).mp e), h2, h3⟩
  · rintro ⟨h1, h2, h3⟩
    exact ⟨fun a ha e => h1 a ha ((en_done hw (wy_lt hA) hM (hA.2 a (by omega)).1 (hA.2 a (by omega)).2).mpr e), h2, h3⟩
theorem xd_no {post : Int32 → SX → Prop} (hw : en_W T K F G) (hA : aw_W T A L R) (hB : aw_D A L R a_left a_right) (hc : cw_W A C hs) (hx : cw_X C hs a_yes a_no) (hS : sw_W A H S) (hSD : sw_D H S a_stack) {l w : Nat} (hl : l < A) (hww : w < 256) (hsay : a_says l = 0) (hM : en_M T K F G (fun _ => False) (wy_E A L R w) c nx [] a_state) (k1 : ok_P T K F G A L R C hs H S (l + 1) w → post 1 (f_terms, f_atoms, nI C, nI H, f_trail, f_pending, f_known, f_count, f_always, f_ever, f_fewest, f_most, f_askA, f_askB, f_together, a_kind, a_first, a_second, a_left, a_right, a_yes, a_no, a_stack, a_state, a_trailAt, a_trailOld, a_pendingA, a_pendingB, a_found, a_says, a_mark)) (k0 : ¬ ok_P T K F G A L R C hs H S (l + 1) w → post 0 (f_terms, f_atoms, nI C, nI H, f_trail, f_pending, f_known, f_count, f_always, f_ever, f_fewest, f_most, f_askA, f_askB, f_together, a_kind, a_first, a_second, a_left, a_right, a_yes, a_no, a_stack, a_state, a_trailAt, a_trailOld, a_pendingA, a_pendingB, a_found, a_says, a_mark)) :
    wpX_decide post (f_terms, f_atoms, nI C, nI H, f_trail, f_pending, f_known, f_count, f_always, f_ever, f_fewest, f_most, f_askA, f_askB, f_together, a_kind, a_first, a_second, a_left, a_right, a_yes, a_no, a_stack, a_state, a_trailAt, a_trailOld, a_pendingA, a_pendingB, a_found, a_says, a_mark) (nI l) (nI w) := by
  have h8 := hA.1
  have sy : a_says (nI l).toNatClampNeg = 0 := xe_r (by omega) hsay
  have iff := ok_iff (C := C) (hs := hs) (H := H) (S := S) hw hA hl hM
  refine And.intro (vp_in_nI (by omega) (by decide)) ?_
  rw [sy]
  refine br_f (by decide) (br_t rfl (br_t rfl ⟨l + 2, ?_⟩))
  exact xd_43 hw.1 hA hB hM.2.1 hl hww hc hx hS hSD (fun g1 g2 g3 => k1 (iff.mpr ⟨g1, g2, g3⟩)) (fun g => k0 (fun z => g (iff.mp z))) (l + 1) 0 (l + 2) (by omega) (by omega) (fun j hj => absurd hj (Nat.not_lt_zero j))
theorem xd_yes {post : Int32 → SX → Prop} (hw : en_W T K F G) (hD : en_D T K F G a_kind a_first a_second) (hA : aw_W T A L R) (hB : aw_D A L R a_left a_right) (hc : cw_W A C hs) (hx : cw_X C hs a_yes a_no) (hS : sw_W A H S) (hSD : sw_D H S a_stack) {l w : Nat} (hl : l < A) (hww : w < 2 ^ l) (hsay : a_says l = 1) (hM : en_M T K F G (fun _ => False) (wy_E A L R w) c nx [] a_state) (hR : tr_R W0 s0 W a_state a_trailAt a_trailOld) (h1 : W.length + 35 * ct_n (fun t => c t = t) T ≤ 600)
    (kk : ∀ (c' nx' : Nat → Nat) (W' : List (Nat × Int32)) (st' ta' to' pa' pb' : Nat → Int32), en_M T K F G (fun _ => False) (wy_E A L R (w + 2 ^ l)) c' nx' [] st' → tr_R W0 s0 W' st' ta' to' → W'.length + 35 * ct_n (fun t => c' t = t) T ≤ 600 → (ok_P T K F G A L R C hs H S (l + 1) (w + 2 ^ l) → post 1 (nI T, f_atoms, nI C, nI H, nI W'.length, 0, f_known, f_count, f_always, f_ever, f_fewest, f_most, f_askA, f_askB, f_together, a_kind, a_first, a_second, a_left, a_right, a_yes, a_no, a_stack, st', ta', to', pa', pb', a_found, a_says, a_mark)) ∧ (¬ ok_P T K F G A L R C hs H S (l + 1) (w + 2 ^ l) → post 0 (nI T, f_atoms, nI C, nI H, nI W'.length, 0, f_known, f_count, f_always, f_ever, f_fewest, f_most, f_askA, f_askB, f_together, a_kind, a_first, a_second, a_left, a_right, a_yes, a_no, a_stack, st', ta', to', pa', pb', a_found, a_says, a_mark))) :
    wpX_decide post (nI T, f_atoms, nI C, nI H, nI W.length, 0, f_known, f_count, f_always, f_ever, f_fewest, f_most, f_askA, f_askB, f_together, a_kind, a_first, a_second, a_left, a_right, a_yes, a_no, a_stack, a_state, a_trailAt, a_trailOld, a_pendingA, a_pendingB, a_found, a_says, a_mark) (nI l) (nI w) := by
  have h8 := hA.1
  have sy : a_says (nI l).toNatClampNeg = 1 := xe_r (by omega) hsay
  have lt : w + 2 ^ l < 256 := by
    have p1 : 2 ^ (l + 1) ≤ 2 ^ 8 := Nat.pow_le_pow_right (by decide) (by omega)
    have p2 : 2 ^ (l + 1) = 2 * 2 ^ l := by rw [Nat.pow_succ]; omega
    omega
  refine And.intro (vp_in_nI (by omega) (by decide)) ?_
  rw [sy]
  refine br_t rfl (br_f (by decide) (br_f (by decide) ?_))
  rw [wp_or hww (by omega)]
  refine xe_equate (E' := wy_E A L R (w + 2 ^ l)) hw hD hA hB hl hM hR h1 ?_ ?_ ?_ ?_
  · rintro x y ⟨a, a1, a2, a3⟩
    exact ⟨a, a1, by show (w + 2 ^ l).testBit a = true; rw [wp_tb hww, a2]; rfl, a3⟩
  · rintro x y ⟨a, a1, a2, a3⟩
    rw [wp_tb hww, Bool.or_eq_true, decide_eq_true_eq] at a2
    rcases a2 with a2 | a2
    · exact Or.inl ⟨a, a1, a2, a3⟩
    · rw [a2] at a3; exact Or.inr a3
  · exact ⟨l, hl, by show (w + 2 ^ l).testBit l = true; rw [wp_tb hww, decide_eq_true rfl, Bool.or_true], rfl, rfl⟩
  · intro c' nx' W' st' ta' to' pa' pb' m1 m2 m3
    have iff := ok_iff (C := C) (hs := hs) (H := H) (S := S) hw hA hl m1
    have k := kk c' nx' W' st' ta' to' pa' pb' m1 m2 m3
    exact ⟨l + 2, xd_43 hw.1 hA hB m1.2.1 hl lt hc hx hS hSD (fun g1 g2 g3 => k.1 (iff.mpr ⟨g1, g2, g3⟩)) (fun g => k.2 (fun z => g (iff.mp z))) (l + 1) 0 (l + 2) (by omega) (by omega) (fun j hj => absurd hj (Nat.not_lt_zero j))⟩
end
/-! meet -/
/-- the number of classes in a way -/
noncomputable def wy_n (T : Nat) (K F G : Nat → Nat) (A : Nat) (L R : Nat → Nat) (w : Nat) : Nat := ct_n (fun t => ∀ u, u < t → ¬ wy_C T K F G A L R w u t) T
theorem wy_cn {T : Nat} {c : Nat → Nat} {q : Nat → Nat → Prop} (hc : ∀ t, t < T → c t < T ∧ c (c t) = c t) (h : ∀ t u, t < T → u < T → (c t = c u ↔ q t u)) : ct_n (fun t => c t = t) T = ct_n (fun t => ∀ u, u < t → ¬ q u t) T := by
  apply Nat.le_antisymm
  · have ex : ∀ i : Nat, ∃ u : Nat, i < T → (u < T ∧ c u = c i ∧ ∀ j, j < u → ¬ c j = c i) := fun i => by
      by_cases hi : i < T
      · obtain ⟨u, u1, u2⟩ := pk_least (fun u => u < T ∧ c u = c i) ⟨i, hi, rfl⟩
        exact ⟨u, fun _ => ⟨u1.1, u1.2, fun j hj e => u2 j hj ⟨by have := u1.1; omega, e⟩⟩⟩
      · exact ⟨0, fun z => absurd z hi⟩
    obtain ⟨g, hg⟩ := Classical.axiomOfChoice ex
    refine ct_inj (g := g) (fun i hi _ => ?_) (fun i j hi hj p1 p2 e => ?_)
    · have a := hg i hi
      exact ⟨a.1, fun u hu z => a.2.2 u hu (((h u (g i) (by have := a.1; omega) a.1).mpr z).trans a.2.1)⟩
    · have a := (hg i hi).2.1
      have b := (hg j hj).2.1
      rw [e, b] at a
      rw [← p1, ← p2]; exact a.symm
  · refine ct_inj (g := c) (fun i hi _ => hc i hi) (fun i j hi hj p1 p2 e => ?_)
    have z := (h i j hi hj).mp e
    rcases Nat.lt_trichotomy i j with y | y | y
    · exact absurd z (p2 i y)
    · exact y
    · exact absurd ((h j i hj hi).mp e.symm) (p1 j y)
/-- what the search has gathered from the ways V: nc their classes, tg what is asked of them -/
def ac_P (nc : Nat → Nat) (tg V : Nat → Prop) (ct al ev fw mo tog : Int32) (fd : Nat → Int64) : Prop :=
  ct = nI (ct_n V 256) ∧ (∀ a, a < 8 → (bt al a = true ↔ ∀ w, V w → w.testBit a = true)) ∧ (∀ a, a < 8 → (bt ev a = true ↔ ∃ w, V w ∧ w.testBit a = true)) ∧ (∀ w, w < 256 → (bl_t (fd (w / 64)) (w % 64) = true ↔ V w)) ∧ (∃ f, fw = nI f ∧ f ≤ 17 ∧ (∀ w, V w → f ≤ nc w) ∧ (f = 17 ∨ ∃ w, V w ∧ nc w = f)) ∧ (∃ m, mo = nI m ∧ m ≤ 16 ∧ (∀ w, V w → nc w ≤ m) ∧ (m = 0 ∨ ∃ w, V w ∧ nc w = m)) ∧ tog = nI (ct_n (fun w => V w ∧ tg w) 256)
def ac_t (T : Nat) (K F G : Nat → Nat) (A : Nat) (L R : Nat → Nat) (tg : Nat → Prop) (qa qb : Int32) : Prop :=
  (qa < 0 ∧ ∀ w, ¬ tg w) ∨ ∃ p q, p < T ∧ q < T ∧ qa = nI p ∧ qb = nI q ∧ ∀ w, tg w ↔ wy_C T K F G A L R w p q
theorem ac_al {V : Nat → Prop} {al : Int32} {w : Nat} (h : ∀ a, a < 8 → (bt al a = true ↔ ∀ w, V w → w.testBit a = true)) : ∀ a, a < 8 → (bt (al &&& nI w) a = true ↔ ∀ x, (V x ∨ x = w) → x.testBit a = true) := by
  intro a ha
  rw [b_and, bw_n (by omega), Bool.and_eq_true, h a ha]
  exact ⟨fun q x hx => hx.elim (q.1 x) (fun e => by rw [e]; exact q.2), fun q => ⟨fun x hx => q x (Or.inl hx), q w (Or.inr rfl)⟩⟩
theorem ac_ev {V : Nat → Prop} {ev : Int32} {w : Nat} (h : ∀ a, a < 8 → (bt ev a = true ↔ ∃ w, V w ∧ w.testBit a = true)) : ∀ a, a < 8 → (bt (ev ||| nI w) a = true ↔ ∃ x, (V x ∨ x = w) ∧ x.testBit a = true) := by
  intro a ha
  rw [b_or, bw_n (by omega), Bool.or_eq_true, h a ha]
  constructor
  · rintro (⟨x, x1, x2⟩ | z)
    · exact ⟨x, Or.inl x1, x2⟩
    · exact ⟨w, Or.inr rfl, z⟩
  · rintro ⟨x, x1 | x1, x2⟩
    · exact Or.inl ⟨x, x1, x2⟩
    · rw [x1] at x2; exact Or.inr x2
theorem ac_fd {V : Nat → Prop} {fd : Nat → Int64} {w : Nat} (hw : w < 256) (h : ∀ w, w < 256 → (bl_t (fd (w / 64)) (w % 64) = true ↔ V w)) : ∀ x, x < 256 → (bl_t (vp_updL fd (w / 64) (fd (w / 64) ||| ((1 : Int64) <<< ((nI (w % 64)).toInt64 &&& 63))) (x / 64)) (x % 64) = true ↔ (V x ∨ x = w)) := by
  intro x hx
  by_cases z : x / 64 = w / 64
  · rw [z, pk_uLs, bl_or _ (by omega) (by omega), Bool.or_eq_true, ← z, h x hx, decide_eq_true_eq]
    exact ⟨fun q => q.elim Or.inl (fun e => Or.inr (by omega)), fun q => q.elim Or.inl (fun e => Or.inr (by rw [e]))⟩
  · rw [pk_uLn z, h x hx]
    exact ⟨Or.inl, fun q => q.elim id (fun e => absurd (by rw [e]) z)⟩
theorem ac_tog {V tg : Nat → Prop} {w : Nat} (hw : w < 256) (hv : ¬ V w) : (tg w → ct_n (fun x => (V x ∨ x = w) ∧ tg x) 256 = ct_n (fun x => V x ∧ tg x) 256 + 1) ∧ (¬ tg w → ct_n (fun x => (V x ∨ x = w) ∧ tg x) 256 = ct_n (fun x => V x ∧ tg x) 256) := by
  constructor
  · intro t
    rw [← ct_add (P := fun x => V x ∧ tg x) (fun z => hv z.1) hw]
    exact ct_eq fun k _ => ⟨fun q => q.1.elim (fun z => Or.inl ⟨z, q.2⟩) Or.inr, fun q => q.elim (fun z => ⟨Or.inl z.1, z.2⟩) (fun e => ⟨Or.inr e, by rw [e]; exact t⟩)⟩
  · intro t
    exact ct_eq fun k _ => ⟨fun q => ⟨q.1.elim id (fun e => absurd (by rw [← e]; exact q.2) t), q.2⟩, fun q => ⟨Or.inl q.1, q.2⟩⟩
section
variable {f_terms f_atoms f_clauses f_depth f_trail f_pending f_known f_count f_always f_ever f_fewest f_most f_askA f_askB f_together : Int32} {a_kind a_first a_second a_left a_right a_yes a_no a_stack a_state a_trailAt a_trailOld a_pendingA a_pendingB a_says a_mark : Nat → Int32} {a_found : Nat → Int64}
variable {T : Nat} {K F G c nx : Nat → Nat} {A : Nat} {L R : Nat → Nat} {tg V : Nat → Prop}
theorem xm_79 {post : SX → Prop} (hw : en_W T K F G) (hA : aw_W T A L R) {w : Nat} (hww : w < 256) (hv : ¬ V w) (hM : en_M T K F G (fun _ => False) (wy_E A L R w) c nx [] a_state) (ht : ac_t T K F G A L R tg f_askA f_askB) (htg : f_together = nI (ct_n (fun w => V w ∧ tg w) 256)) (kk : post (f_terms, f_atoms, f_clauses, f_depth, f_trail, f_pending, f_known, f_count, f_always, f_ever, f_fewest, f_most, f_askA, f_askB, nI (ct_n (fun x => (V x ∨ x = w) ∧ tg x) 256), a_kind, a_first, a_second, a_left, a_right, a_yes, a_no, a_stack, a_state, a_trailAt, a_trailOld, a_pendingA, a_pendingB, a_found, a_says, a_mark)) : wX_meet_79 post f_terms f_atoms f_clauses f_depth f_trail f_pending f_known f_count f_always f_ever f_fewest f_most f_askA f_askB f_together a_kind a_first a_second a_left a_right a_yes a_no a_stack a_state a_trailAt a_trailOld a_pendingA a_pendingB a_found a_says a_mark := by
  have hT := hw.1
  have cnt := ac_tog (tg := tg) hww hv
  rcases ht with ⟨t1, t2⟩ | ⟨p, q, p1, q1, e1, e2, e3⟩
  · refine br_t t1 ?_
    rw [cnt.2 (t2 w), ← htg] at kk; exact kk
  · subst e1; subst e2
    have cp := hM.2.1 p p1
    have cq := hM.2.1 q q1
    have iff := en_done hw (wy_lt hA) hM p1 q1
    refine br_f (nI_pos (by omega)) (And.intro (xe_in0 (by omega) (by decide)) (And.intro (xe_in0 (by omega) (by decide)) (pk_eq (c p) (c q) (fun z => ?_) (fun z => ?_) (xe_r0 (by omega) cp.1) (xe_r0 (by omega) cq.1) (by omega) (by omega))))
    · have tw : tg w := (e3 w).mpr (iff.mp z)
      rw [cnt.1 tw] at kk
      exact nm_r (by rw [htg, nI_1]) kk
    · have tw : ¬ tg w := fun g => z (iff.mpr ((e3 w).mp g))
      rw [cnt.2 tw, ← htg] at kk; exact kk
theorem xm_meet {post : SX → Prop} (hw : en_W T K F G) (hA : aw_W T A L R) {w : Nat} (hww : w < 256) (hv : ¬ V w) (hM : en_M T K F G (fun _ => False) (wy_E A L R w) c nx [] a_state) (ht : ac_t T K F G A L R tg f_askA f_askB) (hac : ac_P (wy_n T K F G A L R) tg V f_count f_always f_ever f_fewest f_most f_together a_found)
    (kk : ∀ (ct al ev fw mo tog : Int32) (fd : Nat → Int64), ac_P (wy_n T K F G A L R) tg (fun x => V x ∨ x = w) ct al ev fw mo tog fd → post (nI T, f_atoms, f_clauses, f_depth, f_trail, f_pending, f_known, ct, al, ev, fw, mo, f_askA, f_askB, tog, a_kind, a_first, a_second, a_left, a_right, a_yes, a_no, a_stack, a_state, a_trailAt, a_trailOld, a_pendingA, a_pendingB, fd, a_says, a_mark)) :
    wpX_meet post (nI T, f_atoms, f_clauses, f_depth, f_trail, f_pending, f_known, f_count, f_always, f_ever, f_fewest, f_most, f_askA, f_askB, f_together, a_kind, a_first, a_second, a_left, a_right, a_yes, a_no, a_stack, a_state, a_trailAt, a_trailOld, a_pendingA, a_pendingB, a_found, a_says, a_mark) (nI w) := by
  have hT := hw.1
  obtain ⟨h1, h2, h3, h4, ⟨f, f1, f2, f3, f4⟩, ⟨m, m1, m2, m3, m4⟩, h7⟩ := hac
  have hC := hM.2.1
  have en : ct_n (fun t => c t = t) T = wy_n T K F G A L R w := wy_cn (fun t ht => ⟨(hC t ht).2.2.1, (hC t ht).2.2.2.1⟩) (fun t u ht hu => en_done hw (wy_lt hA) hM ht hu)
  have n16 : wy_n T K F G A L R w ≤ 16 := by rw [← en]; exact Nat.le_trans (ct_le _ _) hT
  have e6 : nI w >>> ((6 : Int32) &&& 31) = nI (w / 64) := pk_shrN (by omega) _ 6 (by decide)
  have e63 : nI w &&& 63 = nI (w % 64) := pk_andN (by omega) 6 (by decide)
  have i4 : vp_in (nI (w / 64)) 4 := vp_in_nI (by omega) (by decide)
  have ecl : (nI (w / 64)).toNatClampNeg = w / 64 := nI_clamp (by omega)
  subst f1; subst m1
  unfold wpX_meet
  dsimp only
  rw [e6, e63, ecl]
  have g1 : f_count + 1 = nI (ct_n (fun x => V x ∨ x = w) 256) := by rw [h1, nI_1, ct_add hv hww]
  have g2 := ac_al (w := w) h2
  have g3 := ac_ev (w := w) h3
  have g4 := ac_fd hww h4
  refine nm_e (And.intro i4 (And.intro i4 (nm_e (nm_e (nm_e (xe_cn hT hC ?_))))))
  rw [en]
  -- the new bounds, whichever branch is taken
  have gf : ∀ g, g = (if f ≤ wy_n T K F G A L R w then f else wy_n T K F G A L R w) → g ≤ 17 ∧ (∀ x, (V x ∨ x = w) → g ≤ wy_n T K F G A L R x) ∧ (g = 17 ∨ ∃ x, (V x ∨ x = w) ∧ wy_n T K F G A L R x = g) := by
    intro g eg
    by_cases z : f ≤ wy_n T K F G A L R w
    · rw [if_pos z] at eg
      subst eg
      exact ⟨f2, fun x hx => hx.elim (f3 x) (fun e => by rw [e]; exact z), f4.elim Or.inl (fun ⟨x, x1, x2⟩ => Or.inr ⟨x, Or.inl x1, x2⟩)⟩
    · rw [if_neg z] at eg
      subst eg
      exact ⟨by omega, fun x hx => hx.elim (fun y => by have := f3 x y; omega) (fun e => by rw [e]; exact Nat.le_refl _), Or.inr ⟨w, Or.inr rfl, rfl⟩⟩
  have gm : ∀ g, g = (if wy_n T K F G A L R w ≤ m then m else wy_n T K F G A L R w) → g ≤ 16 ∧ (∀ x, (V x ∨ x = w) → wy_n T K F G A L R x ≤ g) ∧ (g = 0 ∨ ∃ x, (V x ∨ x = w) ∧ wy_n T K F G A L R x = g) := by
    intro g eg
    by_cases z : wy_n T K F G A L R w ≤ m
    · rw [if_pos z] at eg
      subst eg
      exact ⟨m2, fun x hx => hx.elim (m3 x) (fun e => by rw [e]; exact z), m4.elim Or.inl (fun ⟨x, x1, x2⟩ => Or.inr ⟨x, Or.inl x1, x2⟩)⟩
    · rw [if_neg z] at eg
      subst eg
      exact ⟨by omega, fun x hx => hx.elim (fun y => by have := m3 x y; omega) (fun e => by rw [e]; exact Nat.le_refl _), Or.inr ⟨w, Or.inr rfl, rfl⟩⟩
  have fin : ∀ g h, g = (if f ≤ wy_n T K F G A L R w then f else wy_n T K F G A L R w) → h = (if wy_n T K F G A L R w ≤ m then m else wy_n T K F G A L R w) → ac_P (wy_n T K F G A L R) tg (fun x => V x ∨ x = w) (f_count + 1) (f_always &&& nI w) (f_ever ||| nI w) (nI g) (nI h) (nI (ct_n (fun x => (V x ∨ x = w) ∧ tg x) 256)) (vp_updL a_found (w / 64) (a_found (w / 64) ||| ((1 : Int64) <<< ((nI (w % 64)).toInt64 &&& 63)))) := fun g h eg eh => ⟨g1, g2, g3, g4, ⟨g, rfl, gf g eg⟩, ⟨h, rfl, gm h eh⟩, rfl⟩
  refine pk_le f (wy_n T K F G A L R w) (fun z => ?_) (fun z => ?_) rfl rfl (by omega) (by omega)
  · refine pk_le (wy_n T K F G A L R w) m (fun y => ?_) (fun y => ?_) rfl rfl (by omega) (by omega)
    · exact xm_79 hw hA hww hv hM ht h7 (kk _ _ _ _ _ _ _ (fin f m (by rw [if_pos z]) (by rw [if_pos y])))
    · exact xm_79 hw hA hww hv hM ht h7 (kk _ _ _ _ _ _ _ (fin f _ (by rw [if_pos z]) (by rw [if_neg (by omega)])))
  · refine pk_le (wy_n T K F G A L R w) m (fun y => ?_) (fun y => ?_) rfl rfl (by omega) (by omega)
    · exact xm_79 hw hA hww hv hM ht h7 (kk _ _ _ _ _ _ _ (fin _ m (by rw [if_neg (by omega)]) (by rw [if_pos y])))
    · exact xm_79 hw hA hww hv hM ht h7 (kk _ _ _ _ _ _ _ (fin _ _ (by rw [if_neg (by omega)]) (by rw [if_neg (by omega)])))
end
end
section
/-! X: search -/
theorem wp_mod {x l : Nat} : x % 2 ^ (l + 1) = x % 2 ^ l ∨ x % 2 ^ (l + 1) = x % 2 ^ l + 2 ^ l := by
  have e := Nat.mod_pow_succ (x := x) (b := 2) (k := l)
  rcases Nat.mod_two_eq_zero_or_one (x / 2 ^ l) with z | z
  · rw [z] at e; left; omega
  · rw [z] at e; right; omega
theorem wp_mod2 {x l w : Nat} (h : x % 2 ^ (l + 1) = w) (hw : w < 2 ^ l) : x % 2 ^ l = w := by
  have p := Nat.mod_lt x (Nat.two_pow_pos l)
  rcases wp_mod (x := x) (l := l) with z | z <;> omega
theorem wp_mod3 {x l w : Nat} (h : x % 2 ^ (l + 1) = w + 2 ^ l) (hw : w < 2 ^ l) : x % 2 ^ l = w := by
  have p := Nat.mod_lt x (Nat.two_pow_pos l)
  rcases wp_mod (x := x) (l := l) with z | z <;> omega
theorem bw_mask {w l : Nat} (hw : w < 2 ^ 32) (hl : l < 16) : nI w &&& (((1 : Int32) <<< (nI l &&& 31)) - 1) = nI (w % 2 ^ l) :=
  pk_andN hw l ((by decide +kernel : ∀ l, l < 16 → (((1 : Int32) <<< (nI l &&& 31)) - 1).toBitVec.toNat = 2 ^ l - 1) l hl)
theorem wh_c {w x s : Nat} (h : w.testBit (s / 2) = x.testBit (s / 2)) : wy_h w s ↔ wy_h x s := by
  rw [Nat.testBit_eq_decide_div_mod_eq, Nat.testBit_eq_decide_div_mod_eq, decide_eq_decide] at h
  unfold wy_h
  have a := Nat.mod_two_eq_zero_or_one (w / 2 ^ (s / 2))
  have b := Nat.mod_two_eq_zero_or_one (x / 2 ^ (s / 2))
  omega
def sb_P (T : Nat) (K F G : Nat → Nat) (A : Nat) (L R : Nat → Nat) (C : Nat) (hs : Nat → Nat → Prop) (H : Nat) (S : Nat → Nat) (l w x : Nat) : Prop := x < 2 ^ A ∧ x % 2 ^ l = w ∧ ok_P T K F G A L R C hs H S A x
theorem sv_2 : vp_nar .byte ((2 : Int32) - 1).toInt8.toInt32 = 1 := by rw [pk_vb]; decide
theorem sv_1 : vp_nar .byte ((1 : Int32) - 1).toInt8.toInt32 = 0 := by rw [pk_vb]; decide
theorem sv_0 : vp_nar .byte ((0 : Int32) - 1).toInt8.toInt32 = -1 := by rw [pk_vb]; decide
theorem sv_b : vp_nar .byte 2 = 2 := by rw [vp_nar_byte]; decide
section
variable {f_terms f_atoms f_clauses f_depth f_trail f_pending f_known f_count f_always f_ever f_fewest f_most f_askA f_askB f_together : Int32} {a_kind a_first a_second a_left a_right a_yes a_no a_stack a_state a_trailAt a_trailOld a_pendingA a_pendingB a_says a_mark : Nat → Int32} {a_found : Nat → Int64}
variable {T : Nat} {K F G c nx : Nat → Nat} {A : Nat} {L R : Nat → Nat} {C : Nat} {hs : Nat → Nat → Prop} {H : Nat} {S : Nat → Nat} {tg : Nat → Prop}
theorem ok_cut {x k : Nat} (hk : k ≤ A) (h : ok_P T K F G A L R C hs H S A x) : ok_P T K F G A L R C hs H S k (x % 2 ^ k) := by
  obtain ⟨h1, h2, h3⟩ := h
  have tb : ∀ i, i < k → (x % 2 ^ k).testBit i = x.testBit i := fun i hi => by
    rw [Nat.testBit_mod_two_pow, decide_eq_true hi, Bool.true_and]
  refine ⟨fun a ha e => ?_, fun j hj hk2 => ?_, fun i hi => ?_⟩
  · rw [tb a ha]
    refine h1 a (by omega) (cc_mono ?_ e)
    rintro p q ⟨b, b1, b2, b3⟩
    rw [Nat.testBit_mod_two_pow, Bool.and_eq_true] at b2
    exact ⟨b, b1, b2.2, b3⟩
  · exact (wh_c (tb _ hk2)).mpr (h2 j hj (by omega))
  · obtain ⟨q, q1, q2⟩ := h3 i hi
    refine ⟨q, q1, ?_⟩
    by_cases z : k ≤ q / 2
    · exact Or.inl z
    · rcases q2 with q2 | q2
      · omega
      · exact Or.inr ((wh_c (tb _ (by omega))).mpr q2)
theorem sb_no {l w x : Nat} (hl : l ≤ A) (h : ¬ ok_P T K F G A L R C hs H S l w) : ¬ sb_P T K F G A L R C hs H S l w x := by
  rintro ⟨_, h2, h3⟩
  exact h (by rw [← h2]; exact ok_cut hl h3)
theorem sb_two {l w x : Nat} (hw : w < 2 ^ l) : sb_P T K F G A L R C hs H S l w x ↔ (sb_P T K F G A L R C hs H S (l + 1) (w + 2 ^ l) x ∨ sb_P T K F G A L R C hs H S (l + 1) w x) := by
  unfold sb_P
  constructor
  · rintro ⟨a, b, d⟩
    rcases wp_mod (x := x) (l := l) with z | z
    · exact Or.inr ⟨a, by omega, d⟩
    · exact Or.inl ⟨a, by omega, d⟩
  · rintro (⟨a, b, d⟩ | ⟨a, b, d⟩)
    · exact ⟨a, wp_mod3 b hw, d⟩
    · exact ⟨a, wp_mod2 b hw, d⟩
theorem xs_172 {post : SX → Prop} {J75 : Int32 → Int32 → Int32 → Int32 → Int32 → Int32 → Int32 → Int32 → Int32 → Int32 → Int32 → Int32 → Int32 → Int32 → Int32 → Int32 → Int32 → (Nat → Int32) → (Nat → Int32) → (Nat → Int32) → (Nat → Int32) → (Nat → Int32) → (Nat → Int32) → (Nat → Int32) → (Nat → Int32) → (Nat → Int32) → (Nat → Int32) → (Nat → Int32) → (Nat → Int32) → (Nat → Int32) → (Nat → Int64) → (Nat → Int32) → (Nat → Int32) → Prop} {l m : Nat} (hl : l < 8) (hm : m < 816) {x2 : Int32} (kk : J75 (nI (l + 1)) x2 f_terms f_atoms f_clauses f_depth (nI m) f_pending f_known f_count f_always f_ever f_fewest f_most f_askA f_askB f_together a_kind a_first a_second a_left a_right a_yes a_no a_stack a_state a_trailAt a_trailOld a_pendingA a_pendingB a_found (upd a_says (l + 1) 2) (upd a_mark (l + 1) (nI m))) : wX_search_172 post J75 (nI l) x2 f_terms f_atoms f_clauses f_depth (nI m) f_pending f_known f_count f_always f_ever f_fewest f_most f_askA f_askB f_together a_kind a_first a_second a_left a_right a_yes a_no a_stack a_state a_trailAt a_trailOld a_pendingA a_pendingB a_found a_says a_mark :=
  nm_r (nI_1 _) (And.intro (vp_in_nI (by omega) (by decide)) (nm_r (xe_u (by omega) sv_b) (And.intro (vp_in_nI (by omega) (by decide)) (nm_r (xe_u (by omega) (xe_s2 (tr_sn m hm))) kk))))
variable {W0 W : List (Nat × Int32)} {st ta to pa pb sy mk : Nat → Int32}
theorem xs_c {post : SX → Prop} {l w v n : Nat} (hl : l < A) (hA8 : A ≤ 8) (hv : v < 256) (hm : v % 2 ^ l = w) (hR : tr_R W st W0 a_state ta to) (hW : W0.length ≤ 900) (hsy : sy l = 0) (hmk : mk l = nI W.length)
    (kk : tr_P ta to W → wX_search_75 post n (nI l + (-1)) (nI w) (nI T) (nI A) (nI C) (nI H) (nI W.length) 0 f_known f_count f_always f_ever f_fewest f_most f_askA f_askB f_together a_kind a_first a_second a_left a_right a_yes a_no a_stack st ta to pa pb a_found (upd sy l (-1)) mk) :
    wX_search_75 post (n + 1) (nI l) (nI v) (nI T) (nI A) (nI C) (nI H) (nI W0.length) 0 f_known f_count f_always f_ever f_fewest f_most f_askA f_askB f_together a_kind a_first a_second a_left a_right a_yes a_no a_stack a_state ta to pa pb a_found sy mk := by
  have v9 : vp_in (nI l) 9 := vp_in_nI (by omega) (by decide)
  refine br_f (nI_pos (by omega)) (br_f (fun e => absurd ((nI_eq (by omega) (by omega)).mp e) (by omega)) (And.intro v9 (xe_undo' (xe_r (by omega) hmk) hR hW (fun ht => ?_))))
  refine nm_r (e' := nI w) (by rw [bw_mask (by omega) (by omega), hm]) (And.intro v9 (And.intro v9 (nm_r (e' := upd sy l (-1)) (xe_u (by omega) (by rw [xe_r (by omega) hsy]; exact sv_0)) (And.intro v9 ?_))))
  exact br_f (by rw [xe_r (x := -1) (by omega) pk_us]; decide) (nm_e (kk ht))
theorem xs_b {post : SX → Prop} (hw : en_W T K F G) (hD : en_D T K F G a_kind a_first a_second) (hA : aw_W T A L R) (hB : aw_D A L R a_left a_right) (hc : cw_W A C hs) (hx : cw_X C hs a_yes a_no) (hS : sw_W A H S) (hSD : sw_D H S a_stack) {l w v n : Nat} (hl : l < A) (hww : w < 2 ^ l) (hv : v < 256) (hm : v % 2 ^ l = w) (hM : en_M T K F G (fun _ => False) (wy_E A L R w) c nx [] st) (hb : W.length ≤ 600) (hR : tr_R W st W0 a_state ta to) (hW : W0.length ≤ 900) (hsy : sy l = 1) (hmk : mk l = nI W.length)
    (k0 : ¬ ok_P T K F G A L R C hs H S (l + 1) w → tr_P ta to W → wX_search_75 post n (nI l) (nI w) (nI T) (nI A) (nI C) (nI H) (nI W.length) 0 f_known f_count f_always f_ever f_fewest f_most f_askA f_askB f_together a_kind a_first a_second a_left a_right a_yes a_no a_stack st ta to pa pb a_found (upd sy l 0) mk)
    (k1 : ok_P T K F G A L R C hs H S (l + 1) w → tr_P ta to W → wX_search_75 post n (nI (l + 1)) (nI w) (nI T) (nI A) (nI C) (nI H) (nI W.length) 0 f_known f_count f_always f_ever f_fewest f_most f_askA f_askB f_together a_kind a_first a_second a_left a_right a_yes a_no a_stack st ta to pa pb a_found (upd (upd sy l 0) (l + 1) 2) (upd mk (l + 1) (nI W.length))) :
    wX_search_75 post (n + 1) (nI l) (nI v) (nI T) (nI A) (nI C) (nI H) (nI W0.length) 0 f_known f_count f_always f_ever f_fewest f_most f_askA f_askB f_together a_kind a_first a_second a_left a_right a_yes a_no a_stack a_state ta to pa pb a_found sy mk := by
  have hA8 := hA.1
  have v9 : vp_in (nI l) 9 := vp_in_nI (by omega) (by decide)
  have lt : w < 256 := Nat.lt_of_lt_of_le hww (Nat.pow_le_pow_right (n := 2) (j := 8) (by decide) (by omega))
  refine br_f (nI_pos (by omega)) (br_f (fun e => absurd ((nI_eq (by omega) (by omega)).mp e) (by omega)) (And.intro v9 (xe_undo' (xe_r (by omega) hmk) hR hW (fun ht => ?_))))
  refine nm_r (e' := nI w) (by rw [bw_mask (by omega) (by omega), hm]) (And.intro v9 (And.intro v9 (nm_r (e' := upd sy l 0) (xe_u (by omega) (by rw [xe_r (by omega) hsy]; exact sv_1)) (And.intro v9 ?_))))
  refine br_t (by rw [xe_r (x := 0) (by omega) pk_us]; decide) ?_
  refine xd_no hw hA hB hc hx hS hSD hl lt pk_us hM (fun g => ?_) (fun g => ?_)
  · refine br_f (by decide) (And.intro v9 (br_f (by rw [xe_r (x := 0) (by omega) pk_us]; decide) ?_))
    exact xs_172 (by omega) (by omega) (k1 g ht)
  · exact br_t rfl (k0 g ht)
theorem xs_a {post : SX → Prop} (hw : en_W T K F G) (hD : en_D T K F G a_kind a_first a_second) (hA : aw_W T A L R) (hB : aw_D A L R a_left a_right) (hc : cw_W A C hs) (hx : cw_X C hs a_yes a_no) (hS : sw_W A H S) (hSD : sw_D H S a_stack) {l w v n : Nat} (hl : l < A) (hww : w < 2 ^ l) (hv : v < 256) (hm : v % 2 ^ l = w) (hM : en_M T K F G (fun _ => False) (wy_E A L R w) c nx [] st) (hb : W.length + 35 * ct_n (fun t => c t = t) T ≤ 600) (hR : tr_R W st W0 a_state ta to) (hW : W0.length ≤ 900) (hsy : sy l = 2) (hmk : mk l = nI W.length)
    (k0 : ¬ ok_P T K F G A L R C hs H S (l + 1) (w + 2 ^ l) → ∀ (c1 nx1 : Nat → Nat) (W1 : List (Nat × Int32)) (st1 ta1 to1 pa1 pb1 : Nat → Int32), en_M T K F G (fun _ => False) (wy_E A L R (w + 2 ^ l)) c1 nx1 [] st1 → tr_R W st W1 st1 ta1 to1 → W1.length + 35 * ct_n (fun t => c1 t = t) T ≤ 600 → wX_search_75 post n (nI l) (nI w) (nI T) (nI A) (nI C) (nI H) (nI W1.length) 0 f_known f_count f_always f_ever f_fewest f_most f_askA f_askB f_together a_kind a_first a_second a_left a_right a_yes a_no a_stack st1 ta1 to1 pa1 pb1 a_found (upd sy l 1) mk)
    (k1 : ok_P T K F G A L R C hs H S (l + 1) (w + 2 ^ l) → ∀ (c1 nx1 : Nat → Nat) (W1 : List (Nat × Int32)) (st1 ta1 to1 pa1 pb1 : Nat → Int32), en_M T K F G (fun _ => False) (wy_E A L R (w + 2 ^ l)) c1 nx1 [] st1 → tr_R W st W1 st1 ta1 to1 → W1.length + 35 * ct_n (fun t => c1 t = t) T ≤ 600 → wX_search_75 post n (nI (l + 1)) (nI (w + 2 ^ l)) (nI T) (nI A) (nI C) (nI H) (nI W1.length) 0 f_known f_count f_always f_ever f_fewest f_most f_askA f_askB f_together a_kind a_first a_second a_left a_right a_yes a_no a_stack st1 ta1 to1 pa1 pb1 a_found (upd (upd sy l 1) (l + 1) 2) (upd mk (l + 1) (nI W1.length))) :
    wX_search_75 post (n + 1) (nI l) (nI v) (nI T) (nI A) (nI C) (nI H) (nI W0.length) 0 f_known f_count f_always f_ever f_fewest f_most f_askA f_askB f_together a_kind a_first a_second a_left a_right a_yes a_no a_stack a_state ta to pa pb a_found sy mk := by
  have hA8 := hA.1
  have v9 : vp_in (nI l) 9 := vp_in_nI (by omega) (by decide)
  refine br_f (nI_pos (by omega)) (br_f (fun e => absurd ((nI_eq (by omega) (by omega)).mp e) (by omega)) (And.intro v9 (xe_undo' (xe_r (by omega) hmk) hR hW (fun ht => ?_))))
  refine nm_r (e' := nI w) (by rw [bw_mask (by omega) (by omega), hm]) (And.intro v9 (And.intro v9 (nm_r (e' := upd sy l 1) (xe_u (by omega) (by rw [xe_r (by omega) hsy]; exact sv_2)) (And.intro v9 ?_))))
  refine br_t (by rw [xe_r (x := 1) (by omega) pk_us]; decide) ?_
  refine xd_yes hw hD hA hB hc hx hS hSD hl hww pk_us hM (tr_R0 ht) hb ?_
  intro c1 nx1 W1 st1 ta1 to1 pa1 pb1 m1 m2 m3
  refine ⟨fun g => ?_, fun g => ?_⟩
  · refine br_f (by decide) (And.intro v9 (br_t (xe_r (by omega) pk_us) (nm_r (wp_or hww (by omega)) ?_)))
    exact xs_172 (by omega) (by omega) (k1 g c1 nx1 W1 st1 ta1 to1 pa1 pb1 m1 m2 m3)
  · exact br_t rfl (k0 g c1 nx1 W1 st1 ta1 to1 pa1 pb1 m1 m2 m3)
end
end
section
/-! X: search -/
def xs_f : Nat → Nat
  | 0 => 1
  | d + 1 => 3 + 2 * xs_f d
section
variable {f_terms f_atoms f_clauses f_depth f_trail f_pending f_known f_count f_always f_ever f_fewest f_most f_askA f_askB f_together : Int32} {a_kind a_first a_second a_left a_right a_yes a_no a_stack a_state a_trailAt a_trailOld a_pendingA a_pendingB a_says a_mark : Nat → Int32} {a_found : Nat → Int64}
variable {T : Nat} {K F G : Nat → Nat} {A : Nat} {L R : Nat → Nat} {C : Nat} {hs : Nat → Nat → Prop} {H : Nat} {S : Nat → Nat} {tg : Nat → Prop}
theorem xs_node {post : SX → Prop} (hw : en_W T K F G) (hD : en_D T K F G a_kind a_first a_second) (hA : aw_W T A L R) (hB : aw_D A L R a_left a_right) (hc : cw_W A C hs) (hx : cw_X C hs a_yes a_no) (hS : sw_W A H S) (hSD : sw_D H S a_stack) (ht : ac_t T K F G A L R tg f_askA f_askB) : ∀ (d l w : Nat) (V : Nat → Prop) (c nx : Nat → Nat) (W : List (Nat × Int32)) (st ta to pa pb sy mq : Nat → Int32) (ct al ev fw mo tog : Int32) (fd : Nat → Int64) (n m : Nat), l + d = A → w < 2 ^ l → ok_P T K F G A L R C hs H S l w → en_M T K F G (fun _ => False) (wy_E A L R w) c nx [] st → tr_P ta to W → W.length + 35 * ct_n (fun t => c t = t) T ≤ 600 → ac_P (wy_n T K F G A L R) tg V ct al ev fw mo tog fd → (∀ x, x % 2 ^ l = w → ¬ V x) → sy l = 2 → mq l = nI W.length → xs_f d + m ≤ n →
    (∀ (V1 : Nat → Prop) (W1 : List (Nat × Int32)) (st1 ta1 to1 pa1 pb1 sy1 mq1 : Nat → Int32) (ct1 al1 ev1 fw1 mo1 tog1 : Int32) (fd1 : Nat → Int64) (n1 : Nat), m ≤ n1 → (∀ x, V1 x ↔ (V x ∨ sb_P T K F G A L R C hs H S l w x)) → ac_P (wy_n T K F G A L R) tg V1 ct1 al1 ev1 fw1 mo1 tog1 fd1 → tr_R W st W1 st1 ta1 to1 → W1.length ≤ 600 → (∀ i, i < l → sy1 i = sy i ∧ mq1 i = mq i) → wX_search_75 post n1 (nI l + (-1)) (nI w) (nI T) (nI A) (nI C) (nI H) (nI W1.length) 0 f_known ct1 al1 ev1 fw1 mo1 f_askA f_askB tog1 a_kind a_first a_second a_left a_right a_yes a_no a_stack st1 ta1 to1 pa1 pb1 fd1 sy1 mq1) →
    wX_search_75 post n (nI l) (nI w) (nI T) (nI A) (nI C) (nI H) (nI W.length) 0 f_known ct al ev fw mo f_askA f_askB tog a_kind a_first a_second a_left a_right a_yes a_no a_stack st ta to pa pb fd sy mq
  | 0, l, w, V, c, nx, W, st, ta, to, pa, pb, sy, mq, ct, al, ev, fw, mo, tog, fd, n, m, hl, hww, hok, hM, hT, hb, hac, hdis, hsy, hmk, hn, kk => by
    have hA8 := hA.1
    have el : l = A := by omega
    subst el
    have lt : w < 256 := Nat.lt_of_lt_of_le hww (Nat.pow_le_pow_right (n := 2) (j := 8) (by decide) (by omega))
    have hn' : 1 + m ≤ n := hn
    obtain ⟨k, rfl⟩ : ∃ k, n = k + 1 := ⟨n - 1, by omega⟩
    refine br_f (nI_pos (by omega)) (br_t rfl (xm_meet hw hA lt (hdis w (Nat.mod_eq_of_lt hww)) hM ht hac ?_))
    intro ct1 al1 ev1 fw1 mo1 tog1 fd1 hac1
    refine nm_e (kk (fun x => V x ∨ x = w) W st ta to pa pb sy mq ct1 al1 ev1 fw1 mo1 tog1 fd1 k (by omega) (fun x => ?_) hac1 (tr_R0 hT) (by omega) (fun i hi => ⟨rfl, rfl⟩))
    unfold sb_P
    constructor
    · rintro (z | z)
      · exact Or.inl z
      · subst z; exact Or.inr ⟨hww, Nat.mod_eq_of_lt hww, hok⟩
    · rintro (z | ⟨z1, z2, z3⟩)
      · exact Or.inl z
      · rw [Nat.mod_eq_of_lt z1] at z2; exact Or.inr z2
  | d + 1, l, w, V, c, nx, W, st, ta, to, pa, pb, sy, mq, ct, al, ev, fw, mo, tog, fd, n, m, hl, hww, hok, hM, hT, hb, hac, hdis, hsy, hmk, hn, kk => by
    have hA8 := hA.1
    have hlA : l < A := by omega
    have hn' : 3 + 2 * xs_f d + m ≤ n := hn
    have p1 : 2 ^ (l + 1) ≤ 2 ^ 8 := Nat.pow_le_pow_right (by decide) (by omega)
    have p2 : 2 ^ (l + 1) = 2 * 2 ^ l := by rw [Nat.pow_succ]; omega
    have lt : w < 256 := by omega
    have lt2 : w + 2 ^ l < 256 := by omega
    have mw : w % 2 ^ l = w := Nat.mod_eq_of_lt hww
    have mw2 : (w + 2 ^ l) % 2 ^ l = w := by rw [Nat.add_mod_right]; exact mw
    have stepC : ∀ (V1 : Nat → Prop) (W1 : List (Nat × Int32)) (st1 ta1 to1 pa1 pb1 sy1 mq1 : Nat → Int32) (ct1 al1 ev1 fw1 mo1 tog1 : Int32) (fd1 : Nat → Int64) (v n1 : Nat), 1 + m ≤ n1 → v < 256 → v % 2 ^ l = w → (∀ x, V1 x ↔ (V x ∨ sb_P T K F G A L R C hs H S l w x)) → ac_P (wy_n T K F G A L R) tg V1 ct1 al1 ev1 fw1 mo1 tog1 fd1 → tr_R W st W1 st1 ta1 to1 → W1.length ≤ 600 → sy1 l = 0 → (∀ i, i < l → sy1 i = sy i) → (∀ i, i < l + 1 → mq1 i = mq i) → wX_search_75 post n1 (nI l) (nI v) (nI T) (nI A) (nI C) (nI H) (nI W1.length) 0 f_known ct1 al1 ev1 fw1 mo1 f_askA f_askB tog1 a_kind a_first a_second a_left a_right a_yes a_no a_stack st1 ta1 to1 pa1 pb1 fd1 sy1 mq1 := by
      intro V1 W1 st1 ta1 to1 pa1 pb1 sy1 mq1 ct1 al1 ev1 fw1 mo1 tog1 fd1 v n1 q1 q2 q3 q4 q5 q6 q7 q8 q9 q10
      obtain ⟨k, rfl⟩ : ∃ k, n1 = k + 1 := ⟨n1 - 1, by omega⟩
      refine xs_c hlA hA8 q2 q3 q6 (by omega) q8 (by rw [q10 l (by omega), hmk]) (fun htp => ?_)
      exact kk V1 W st ta1 to1 pa1 pb1 (upd sy1 l (-1)) mq1 ct1 al1 ev1 fw1 mo1 tog1 fd1 k (by omega) q4 q5 (tr_R0 htp) (by omega) (fun i hi => ⟨by rw [pk_un (by omega)]; exact q9 i hi, q10 i (by omega)⟩)
    have stepB : ∀ (V1 : Nat → Prop) (W1 : List (Nat × Int32)) (st1 ta1 to1 pa1 pb1 sy1 mq1 : Nat → Int32) (ct1 al1 ev1 fw1 mo1 tog1 : Int32) (fd1 : Nat → Int64) (v n1 : Nat), 2 + xs_f d + m ≤ n1 → v < 256 → v % 2 ^ l = w → (∀ x, V1 x ↔ (V x ∨ sb_P T K F G A L R C hs H S (l + 1) (w + 2 ^ l) x)) → ac_P (wy_n T K F G A L R) tg V1 ct1 al1 ev1 fw1 mo1 tog1 fd1 → tr_R W st W1 st1 ta1 to1 → W1.length ≤ 600 → sy1 l = 1 → (∀ i, i < l → sy1 i = sy i) → (∀ i, i < l + 1 → mq1 i = mq i) → wX_search_75 post n1 (nI l) (nI v) (nI T) (nI A) (nI C) (nI H) (nI W1.length) 0 f_known ct1 al1 ev1 fw1 mo1 f_askA f_askB tog1 a_kind a_first a_second a_left a_right a_yes a_no a_stack st1 ta1 to1 pa1 pb1 fd1 sy1 mq1 := by
      intro V1 W1 st1 ta1 to1 pa1 pb1 sy1 mq1 ct1 al1 ev1 fw1 mo1 tog1 fd1 v n1 q1 q2 q3 q4 q5 q6 q7 q8 q9 q10
      obtain ⟨k, rfl⟩ : ∃ k, n1 = k + 1 := ⟨n1 - 1, by omega⟩
      refine xs_b hw hD hA hB hc hx hS hSD hlA hww q2 q3 hM (by omega) q6 (by omega) q8 (by rw [q10 l (by omega), hmk]) (fun g htp => ?_) (fun g htp => ?_)
      · refine stepC V1 W st ta1 to1 pa1 pb1 (upd sy1 l 0) mq1 ct1 al1 ev1 fw1 mo1 tog1 fd1 w k (by omega) lt mw (fun x => ?_) q5 (tr_R0 htp) (by omega) pk_us (fun i hi => by rw [pk_un (by omega)]; exact q9 i hi) q10
        rw [q4 x, sb_two hww]
        have no := sb_no (x := x) (show l + 1 ≤ A by omega) g
        exact ⟨fun z => z.elim Or.inl (fun y => Or.inr (Or.inl y)), fun z => z.elim Or.inl (fun y => y.elim Or.inr (fun u => absurd u no))⟩
      · refine xs_node hw hD hA hB hc hx hS hSD ht d (l + 1) w V1 c nx W st ta1 to1 pa1 pb1 (upd (upd sy1 l 0) (l + 1) 2) (upd mq1 (l + 1) (nI W.length)) ct1 al1 ev1 fw1 mo1 tog1 fd1 k (1 + m) (by omega) (by omega) g hM htp hb q5 (fun x hx => ?_) pk_us pk_us (by omega) ?_
        · rw [q4 x]
          rintro (z | ⟨z1, z2, z3⟩)
          · exact hdis x (wp_mod2 hx hww) z
          · rw [hx] at z2
            have := Nat.two_pow_pos l
            omega
        · intro V2 W2 st2 ta2 to2 pa2 pb2 sy2 mq2 ct2 al2 ev2 fw2 mo2 tog2 fd2 n2 r1 r2 r3 r4 r5 r6
          rw [pk_m1]
          refine stepC V2 W2 st2 ta2 to2 pa2 pb2 sy2 mq2 ct2 al2 ev2 fw2 mo2 tog2 fd2 w n2 r1 lt mw (fun x => ?_) r3 r4 r5 ?_ (fun i hi => ?_) (fun i hi => ?_)
          · rw [r2 x, q4 x, sb_two hww]
            exact ⟨fun z => z.elim (fun y => y.elim Or.inl (fun u => Or.inr (Or.inl u))) (fun y => Or.inr (Or.inr y)), fun z => z.elim (fun y => Or.inl (Or.inl y)) (fun y => y.elim (fun u => Or.inl (Or.inr u)) Or.inr)⟩
          · rw [(r6 l (by omega)).1, pk_un (by omega), pk_us]
          · rw [(r6 i (by omega)).1, pk_un (by omega), pk_un (by omega)]; exact q9 i hi
          · rw [(r6 i (by omega)).2, pk_un (by omega)]; exact q10 i hi
    obtain ⟨k, rfl⟩ : ∃ k, n = k + 1 := ⟨n - 1, by omega⟩
    refine xs_a hw hD hA hB hc hx hS hSD hlA hww lt mw hM hb (tr_R0 hT) (by omega) hsy hmk (fun g c1 nx1 W1 st1 ta1 to1 pa1 pb1 m1 m2 m3 => ?_) (fun g c1 nx1 W1 st1 ta1 to1 pa1 pb1 m1 m2 m3 => ?_)
    · refine stepB V W1 st1 ta1 to1 pa1 pb1 (upd sy l 1) mq ct al ev fw mo tog fd w k (by omega) lt mw (fun x => ?_) hac m2 (by omega) pk_us (fun i hi => pk_un (by omega)) (fun i hi => rfl)
      have no := sb_no (x := x) (show l + 1 ≤ A by omega) g
      exact ⟨Or.inl, fun z => z.elim id (fun y => absurd y no)⟩
    · refine xs_node hw hD hA hB hc hx hS hSD ht d (l + 1) (w + 2 ^ l) V c1 nx1 W1 st1 ta1 to1 pa1 pb1 (upd (upd sy l 1) (l + 1) 2) (upd mq (l + 1) (nI W1.length)) ct al ev fw mo tog fd k (2 + xs_f d + m) (by omega) (by omega) g m1 m2.1 m3 hac (fun x hx => hdis x (wp_mod3 hx hww)) pk_us pk_us (by omega) ?_
      intro V2 W2 st2 ta2 to2 pa2 pb2 sy2 mq2 ct2 al2 ev2 fw2 mo2 tog2 fd2 n2 r1 r2 r3 r4 r5 r6
      rw [pk_m1]
      refine stepB V2 W2 st2 ta2 to2 pa2 pb2 sy2 mq2 ct2 al2 ev2 fw2 mo2 tog2 fd2 (w + 2 ^ l) n2 r1 lt2 mw2 r2 r3 (tr_trans m2 r4) r5 ?_ (fun i hi => ?_) (fun i hi => ?_)
      · rw [(r6 l (by omega)).1, pk_un (by omega), pk_us]
      · rw [(r6 i (by omega)).1, pk_un (by omega), pk_un (by omega)]
      · rw [(r6 i (by omega)).2, pk_un (by omega)]
/-- a model -/
def md_P (T : Nat) (K F G : Nat → Nat) (A : Nat) (L R : Nat → Nat) (C : Nat) (hs : Nat → Nat → Prop) (H : Nat) (S : Nat → Nat) (x : Nat) : Prop := x < 2 ^ A ∧ ok_P T K F G A L R C hs H S A x
theorem ac_0 {nc : Nat → Nat} {fd : Nat → Int64} (h : ∀ j, j < 4 → fd j = 0) : ac_P nc tg (fun _ => False) 0 255 0 17 0 0 fd := by
  have z0 : ct_n (fun _ => False) 256 = 0 := ct_zero.mpr (fun _ _ e => e)
  have z1 : ct_n (fun w => False ∧ tg w) 256 = 0 := ct_zero.mpr (fun _ _ e => e.1)
  refine ⟨by rw [z0]; rfl, fun a ha => ?_, fun a ha => ?_, fun w hw => ?_, ⟨17, rfl, Nat.le_refl _, fun _ e => absurd e id, Or.inl rfl⟩, ⟨0, rfl, Nat.zero_le _, fun _ e => absurd e id, Or.inl rfl⟩, by rw [z1]; rfl⟩
  · rw [b_255, decide_eq_true ha]
    exact ⟨fun _ _ e => absurd e id, fun _ => rfl⟩
  · rw [b_0]
    exact ⟨fun e => absurd e (by decide), fun ⟨_, e, _⟩ => absurd e id⟩
  · rw [h (w / 64) (by omega), bl_z.mp rfl (w % 64) (by omega)]
    exact ⟨fun e => absurd e (by decide), fun e => absurd e id⟩
theorem xs_6 {post : SX → Prop} (hw : en_W T K F G) (hD : en_D T K F G a_kind a_first a_second) (hA : aw_W T A L R) (hB : aw_D A L R a_left a_right) (hc : cw_W A C hs) (hx : cw_X C hs a_yes a_no) (hS : sw_W A H S) (hSD : sw_D H S a_stack) (ht : ac_t T K F G A L R tg f_askA f_askB) {c nx st ta to pa pb} (hM : en_M T K F G (fun _ => False) (fun _ _ => False) c nx [] st)
    (kk : ∀ (V1 : Nat → Prop) (W1 : List (Nat × Int32)) (st1 ta1 to1 pa1 pb1 sy1 mq1 : Nat → Int32) (ct1 al1 ev1 fw1 mo1 tog1 : Int32) (fd1 : Nat → Int64) (tr1 : Int32), (∀ x, V1 x ↔ md_P T K F G A L R C hs H S x) → ac_P (wy_n T K F G A L R) tg V1 ct1 al1 ev1 fw1 mo1 tog1 fd1 → post (nI T, nI A, nI C, nI H, tr1, 0, f_known, ct1, al1, ev1, fw1, mo1, f_askA, f_askB, tog1, a_kind, a_first, a_second, a_left, a_right, a_yes, a_no, a_stack, st1, ta1, to1, pa1, pb1, fd1, sy1, mq1)) :
    ∀ (d i n : Nat) (fd : Nat → Int64), i + d = 4 → d < n → (∀ j, j < i → fd j = 0) → wX_search_6 post (nI T) (nI A) (nI C) (nI H) 0 0 f_known f_count f_always f_ever f_fewest f_most f_askA f_askB f_together n (nI i) a_kind a_first a_second a_left a_right a_yes a_no a_stack st ta to pa pb fd a_says a_mark
  | 0, i, n + 1, fd, hi, hn, hf => by
    have e : i = 4 := by omega
    subst e
    have eE : (fun _ _ => False : Nat → Nat → Prop) = wy_E A L R 0 := by
      funext x y
      apply propext
      exact ⟨fun e => absurd e id, fun ⟨a, _, a2, _⟩ => by have a3 : Nat.testBit 0 a = true := a2; rw [Nat.zero_testBit] at a3; exact absurd a3 (by decide)⟩
    rw [eE] at hM
    have cn := ct_le (fun t => c t = t) T
    have hT := hw.1
    refine br_t (Int32.le_refl _) (nm_r (e' := upd a_says 0 2) (by rw [sv_b]) (nm_r (e' := upd a_mark 0 0) (by rw [xe_z0]) ⟨xs_f A + 1, ?_⟩))
    refine xs_node hw hD hA hB hc hx hS hSD ht A 0 0 (fun _ => False) c nx [] st ta to pa pb (upd a_says 0 2) (upd a_mark 0 0) 0 255 0 17 0 0 fd (xs_f A + 1) 1 (by omega) (by decide) ⟨fun a ha => absurd ha (Nat.not_lt_zero a), fun k hk h2 => absurd h2 (Nat.not_lt_zero _), fun i hi => ?_⟩ hM trivial (by simp only [List.length_nil]; omega) (ac_0 hf) (fun _ _ e => e) pk_us pk_us (Nat.le_refl _) ?_
    · obtain ⟨q, hq⟩ := (hc.2 i hi).2
      exact ⟨q, hq, Or.inl (Nat.zero_le _)⟩
    · intro V1 W1 st1 ta1 to1 pa1 pb1 sy1 mq1 ct1 al1 ev1 fw1 mo1 tog1 fd1 n1 r1 r2 r3 r4 r5 r6
      obtain ⟨k, rfl⟩ : ∃ k, n1 = k + 1 := ⟨n1 - 1, by omega⟩
      refine br_t (by decide) (kk V1 W1 st1 ta1 to1 pa1 pb1 sy1 mq1 ct1 al1 ev1 fw1 mo1 tog1 fd1 _ (fun x => ?_) r3)
      rw [r2 x]
      unfold sb_P md_P
      exact ⟨fun z => z.elim (fun e => absurd e id) (fun y => ⟨y.1, y.2.2⟩), fun z => Or.inr ⟨z.1, by rw [Nat.pow_zero, Nat.mod_one], z.2⟩⟩
  | d + 1, i, n + 1, fd, hi, hn, hf => by
    have cl : (nI i).toNatClampNeg = i := nI_clamp (by omega)
    refine br_f (nI_ge (a := i) (b := 4) (by omega) (by omega)) (And.intro (vp_in_nI (by omega) (by decide)) (nm_r (e' := vp_updL fd i 0) (by rw [cl]) (nm_r (nI_1 _) (xs_6 hw hD hA hB hc hx hS hSD ht hM kk d (i + 1) n (vp_updL fd i 0) (by omega) (by omega) (fun j hj => ?_)))))
    by_cases z : j = i
    · rw [z, pk_uLs]
    · rw [pk_uLn z]; exact hf j (by omega)
theorem xs_search {post : SX → Prop} (hw : en_W T K F G) (hD : en_D T K F G a_kind a_first a_second) (hA : aw_W T A L R) (hB : aw_D A L R a_left a_right) (hc : cw_W A C hs) (hx : cw_X C hs a_yes a_no) (hS : sw_W A H S) (hSD : sw_D H S a_stack) (ht : ac_t T K F G A L R tg f_askA f_askB)
    (kk : ∀ (V1 : Nat → Prop) (W1 : List (Nat × Int32)) (st1 ta1 to1 pa1 pb1 sy1 mq1 : Nat → Int32) (ct1 al1 ev1 fw1 mo1 tog1 : Int32) (fd1 : Nat → Int64) (tr1 : Int32), (∀ x, V1 x ↔ md_P T K F G A L R C hs H S x) → ac_P (wy_n T K F G A L R) tg V1 ct1 al1 ev1 fw1 mo1 tog1 fd1 → post (nI T, nI A, nI C, nI H, tr1, 0, f_known, ct1, al1, ev1, fw1, mo1, f_askA, f_askB, tog1, a_kind, a_first, a_second, a_left, a_right, a_yes, a_no, a_stack, st1, ta1, to1, pa1, pb1, fd1, sy1, mq1)) :
    wpX_search post (nI T, nI A, nI C, nI H, f_trail, f_pending, f_known, f_count, f_always, f_ever, f_fewest, f_most, f_askA, f_askB, f_together, a_kind, a_first, a_second, a_left, a_right, a_yes, a_no, a_stack, a_state, a_trailAt, a_trailOld, a_pendingA, a_pendingB, a_found, a_says, a_mark) := by
  unfold wpX_search
  dsimp only
  refine xe_begin hw hD (fun c nx st ta to pa pb hM => ?_)
  exact ⟨5, xs_6 hw hD hA hB hc hx hS hSD ht hM kk 4 0 5 a_found (by omega) (by omega) (fun j hj => absurd hj (Nat.not_lt_zero j))⟩
end
end
section
/-! Y: unite, alike, close -/
def ye_I (T : Nat) (K F G : Nat → Nat) (E : Nat → Nat → Prop) (f : Nat → Nat) : Prop := (∀ t, t < T → f t ≤ t ∧ f (f t) = f t) ∧ (∀ t u, t < T → u < T → f t = f u → cc_C T K F G E t u)
def ye_m (a b : Nat) (f : Nat → Nat) (t : Nat) : Nat := if f t = a ∨ f t = b then (if b ≤ a then b else a) else f t
def ye_al (K F G f : Nat → Nat) (t u : Nat) : Prop := K t = K u ∧ K t ≠ 0 ∧ f (F t) = f (F u) ∧ (K t = 2 → f (G t) = f (G u))
/-- the classes of a way, by their least terms -/
def ye_L (T : Nat) (K F G : Nat → Nat) (E : Nat → Nat → Prop) (f : Nat → Nat) : Prop := ∀ t, t < T → f t ≤ t ∧ f (f t) = f t ∧ ∀ u, u < T → (f t = f u ↔ cc_C T K F G E t u)
section
variable {T : Nat} {K F G f : Nat → Nat} {E : Nat → Nat → Prop}
theorem ye_me {a b : Nat} {t u : Nat} (h : f t = f u) : ye_m a b f t = ye_m a b f u := by
  unfold ye_m; rw [h]
theorem ye_m1 {a b : Nat} {t : Nat} (h : f t = a ∨ f t = b) : ye_m a b f t = if b ≤ a then b else a := by
  unfold ye_m; rw [if_pos h]
theorem ye_m2 {a b : Nat} {t : Nat} (h : ¬ (f t = a ∨ f t = b)) : ye_m a b f t = f t := by
  unfold ye_m; rw [if_neg h]
theorem ye_mI (h : ye_I T K F G E f) {t0 u0 : Nat} (ht : t0 < T) (hu : u0 < T) (hc : cc_C T K F G E t0 u0) : ye_I T K F G E (ye_m (f t0) (f u0) f) := by
  obtain ⟨h1, h2⟩ := h
  have q1 := h1 t0 ht
  have q2 := h1 u0 hu
  constructor
  · intro t hT
    have q := h1 t hT
    by_cases z : f t = f t0 ∨ f t = f u0
    · rw [ye_m1 z]
      by_cases y : f u0 ≤ f t0
      · rw [if_pos y]
        refine ⟨by omega, ?_⟩
        rw [ye_m1 (Or.inr q2.2), if_pos y]
      · rw [if_neg y]
        refine ⟨by omega, ?_⟩
        rw [ye_m1 (Or.inl q1.2), if_neg y]
    · rw [ye_m2 z]
      refine ⟨q.1, ?_⟩
      rw [ye_m2 (by rw [q.2]; exact z)]; exact q.2
  · have ab : cc_C T K F G E (f t0) (f u0) := cc_tr (cc_sy (h2 t0 (f t0) ht (by omega) q1.2.symm)) (cc_tr hc (h2 u0 (f u0) hu (by omega) q2.2.symm))
    have own : ∀ t, t < T → cc_C T K F G E t (ye_m (f t0) (f u0) f t) := fun t hT => by
      have q := h1 t hT
      have g := h2 t (f t) hT (by omega) q.2.symm
      by_cases z : f t = f t0 ∨ f t = f u0
      · rw [ye_m1 z]
        by_cases y : f u0 ≤ f t0
        · rw [if_pos y]
          rcases z with z | z
          · rw [z] at g; exact cc_tr g ab
          · rw [z] at g; exact g
        · rw [if_neg y]
          rcases z with z | z
          · rw [z] at g; exact g
          · rw [z] at g; exact cc_tr g (cc_sy ab)
      · rw [ye_m2 z]; exact g
    intro t u hT hU e
    have a := own t hT
    have b := own u hU
    rw [← e] at b
    exact cc_tr a (cc_sy b)
theorem ye_mj {t0 u0 : Nat} : ye_m (f t0) (f u0) f t0 = ye_m (f t0) (f u0) f u0 := by
  rw [ye_m1 (Or.inl rfl), ye_m1 (Or.inr rfl)]
theorem ye_mn (h : ye_I T K F G E f) {t0 u0 : Nat} (ht : t0 < T) (hu : u0 < T) (hne : f t0 ≠ f u0) : ct_n (fun t => ye_m (f t0) (f u0) f t = t) T < ct_n (fun t => f t = t) T := by
  have q1 := h.1 t0 ht
  have q2 := h.1 u0 hu
  by_cases y : f u0 ≤ f t0
  · refine ct_lt (P := fun t => ye_m (f t0) (f u0) f t = t) (Q := fun t => f t = t) (N := T) (a := f t0) ?_ q1.2 (fun k hk e => ?_) (by omega)
    · rw [ye_m1 (Or.inl q1.2), if_pos y]; omega
    · by_cases z : f k = f t0 ∨ f k = f u0
      · have e' := e
        rw [ye_m1 z, if_pos y] at e'
        rw [← e']; exact q2.2
      · rw [ye_m2 z] at e; exact e
  · refine ct_lt (P := fun t => ye_m (f t0) (f u0) f t = t) (Q := fun t => f t = t) (N := T) (a := f u0) ?_ q2.2 (fun k hk e => ?_) (by omega)
    · rw [ye_m1 (Or.inr q2.2), if_neg y]; omega
    · by_cases z : f k = f t0 ∨ f k = f u0
      · have e' := e
        rw [ye_m1 z, if_neg y] at e'
        rw [← e']; exact q1.2
      · rw [ye_m2 z] at e; exact e
theorem ye_done (hw : en_W T K F G) (hE : ∀ x y, E x y → x < T ∧ y < T) (h : ye_I T K F G E f) (h1 : ∀ x y, E x y → f x = f y) (h2 : ∀ t u, t < T → u < T → ye_al K F G f t u → f t = f u) : ye_L T K F G E f := by
  intro t ht
  refine ⟨(h.1 t ht).1, (h.1 t ht).2, fun u hu => ⟨h.2 t u ht hu, fun hc => ?_⟩⟩
  have hV := cc_orV (T := T) (c := f)
  have k := hc (fun x y => x = y ∨ (x < T ∧ y < T ∧ f x = f y)) ⟨hV.1, hV.2.1, hV.2.2, ?_⟩ (fun x y e => Or.inr ⟨(hE x y e).1, (hE x y e).2, h1 x y e⟩)
  · rcases k with k | k
    · rw [k]
    · exact k.2.2
  · intro u v hu hv hk h0 hf hg
    have ef : f (F u) = f (F v) := hf.elim (fun e => by rw [e]) (fun e => e.2.2)
    have eg : K u = 2 → f (G u) = f (G v) := fun z => (hg z).elim (fun e => by rw [e]) (fun e => e.2.2)
    exact Or.inr ⟨hu, hv, h2 u v hu hv ⟨hk, h0, ef, eg⟩⟩
variable {f_terms f_atoms f_clauses f_height f_models f_known f_closed : Int32} {a_kind a_first a_second a_left a_right a_literals a_stack a_of a_possible a_model a_classOf : Nat → Int32}
theorem yu_32 {post : SY → Prop} (hT : T ≤ 16) {a b : Nat} (ha : a < 16) (hb : b < 16) (hf : ∀ t, t < T → f t < 16) {x5 : Int32} (e5 : x5 = nI (if b ≤ a then b else a)) (kk : ∀ (of' : Nat → Int32), (∀ t, t < T → of' t = nI (ye_m a b f t)) → post (nI T, f_atoms, f_clauses, f_height, f_models, f_known, f_closed, a_kind, a_first, a_second, a_left, a_right, a_literals, a_stack, of', a_possible, a_model, a_classOf)) :
    ∀ (d i n : Nat) (o : Nat → Int32), i + d = T → d < n → (∀ t, t < T → o t = nI (if t < i then ye_m a b f t else f t)) → wY_unite_32 post (nI a) (nI b) x5 (nI T) f_atoms f_clauses f_height f_models f_known f_closed n (nI i) a_kind a_first a_second a_left a_right a_literals a_stack o a_possible a_model a_classOf
  | 0, i, n + 1, o, hi, hn, ho => by
    refine br_t (nI_le (by omega) (by omega)) (kk o (fun t ht => ?_))
    rw [ho t ht, if_pos (by omega)]
  | d + 1, i, n + 1, o, hi, hn, ho => by
    have ii : vp_in (nI i) 16 := vp_in_nI (by omega) (by decide)
    have oi : o i = nI (f i) := by rw [ho i (by omega), if_neg (by omega)]
    have ro : o (nI i).toNatClampNeg = nI (f i) := xe_r (by omega) oi
    have fi := hf i (by omega)
    have up : (f i = a ∨ f i = b) → ∀ t, t < T → upd o i x5 t = nI (if t < i + 1 then ye_m a b f t else f t) := fun z t ht => by
      by_cases y : t = i
      · rw [y, pk_us, if_pos (by omega), ye_m1 z, e5]
      · rw [pk_un y, ho t ht]
        by_cases w : t < i
        · rw [if_pos w, if_pos (by omega)]
        · rw [if_neg w, if_neg (by omega)]
    refine br_f (nI_ge (by omega) (by omega)) (And.intro ii (pk_eq (f i) a (fun z => ?_) (fun z => ?_) ro rfl (by omega) (by omega)))
    · exact And.intro ii (nm_r (xe_u (by omega) rfl) (nm_r (nI_1 _) (yu_32 hT ha hb hf e5 kk d (i + 1) n (upd o i x5) (by omega) (by omega) (up (Or.inl z)))))
    · refine And.intro ii (pk_eq (f i) b (fun y => ?_) (fun y => ?_) ro rfl (by omega) (by omega))
      · exact And.intro ii (nm_r (xe_u (by omega) rfl) (nm_r (nI_1 _) (yu_32 hT ha hb hf e5 kk d (i + 1) n (upd o i x5) (by omega) (by omega) (up (Or.inr y)))))
      · refine nm_r (nI_1 _) (yu_32 hT ha hb hf e5 kk d (i + 1) n o (by omega) (by omega) (fun t ht => ?_))
        rw [ho t ht]
        by_cases w : t = i
        · rw [w, if_neg (by omega), if_pos (by omega), ye_m2 (fun q => q.elim z y)]
        · by_cases x : t < i
          · rw [if_pos x, if_pos (by omega)]
          · rw [if_neg x, if_neg (by omega)]
theorem yu_unite {post : SY → Prop} (hT : T ≤ 16) (hI : ye_I T K F G E f) (ho : ∀ t, t < T → a_of t = nI (f t)) {t0 u0 : Nat} (ht : t0 < T) (hu : u0 < T) (kk : ∀ (of' : Nat → Int32), (∀ t, t < T → of' t = nI (ye_m (f t0) (f u0) f t)) → post (nI T, f_atoms, f_clauses, f_height, f_models, f_known, f_closed, a_kind, a_first, a_second, a_left, a_right, a_literals, a_stack, of', a_possible, a_model, a_classOf)) : wpY_unite post (nI T, f_atoms, f_clauses, f_height, f_models, f_known, f_closed, a_kind, a_first, a_second, a_left, a_right, a_literals, a_stack, a_of, a_possible, a_model, a_classOf) (nI t0) (nI u0) := by
  have q1 := hI.1 t0 ht
  have q2 := hI.1 u0 hu
  have hf : ∀ t, t < T → f t < 16 := fun t h => by have := (hI.1 t h).1; omega
  have h0 : ∀ t, t < T → a_of t = nI (if t < 0 then ye_m (f t0) (f u0) f t else f t) := fun t h => by rw [if_neg (Nat.not_lt_zero t)]; exact ho t h
  refine And.intro (vp_in_nI (by omega) (by decide)) (nm_r (e' := nI (f t0)) (xe_r (by omega) (ho t0 ht)) (And.intro (vp_in_nI (by omega) (by decide)) (nm_r (e' := nI (f u0)) (xe_r (by omega) (ho u0 hu)) (pk_le (f u0) (f t0) (fun z => ?_) (fun z => ?_) rfl rfl (by omega) (by omega)))))
  · exact ⟨T + 1, yu_32 hT (hf t0 ht) (hf u0 hu) hf (by rw [if_pos z]) kk T 0 (T + 1) a_of (by omega) (by omega) h0⟩
  · exact ⟨T + 1, yu_32 hT (hf t0 ht) (hf u0 hu) hf (by rw [if_neg (by omega)]) kk T 0 (T + 1) a_of (by omega) (by omega) h0⟩
theorem yu_alike {post : Int32 → Prop} (hw : en_W T K F G) (hD : en_D T K F G a_kind a_first a_second) (hI : ye_I T K F G E f) (ho : ∀ t, t < T → a_of t = nI (f t)) {t u : Nat} (ht : t < T) (hu : u < T) (k1 : ye_al K F G f t u → post 1) (k0 : ¬ ye_al K F G f t u → post 0) : wpY_alike post (f_terms, f_atoms, f_clauses, f_height, f_models, f_known, f_closed, a_kind, a_first, a_second, a_left, a_right, a_literals, a_stack, a_of, a_possible, a_model, a_classOf) (nI t) (nI u) := by
  have hT := hw.1
  have wt := hw.2 t ht
  have wu := hw.2 u hu
  have dt := hD t ht
  have du := hD u hu
  have it : vp_in (nI t) 16 := vp_in_nI (by omega) (by decide)
  have iu : vp_in (nI u) 16 := vp_in_nI (by omega) (by decide)
  have kt : a_kind (nI t).toNatClampNeg = nI (K t) := xe_r (by omega) dt.1
  have ku : a_kind (nI u).toNatClampNeg = nI (K u) := xe_r (by omega) du.1
  have hf : ∀ t, t < T → f t < 16 := fun t h => by have := (hI.1 t h).1; omega
  refine And.intro it (And.intro iu (pk_eq (K t) (K u) (fun z => And.intro it (pk_eq (K t) 0 (fun y => ?_) (fun y => ?_) kt rfl (by omega) (by omega))) (fun z => ?_) kt ku (by omega) (by omega)))
  · exact k0 (fun g => g.2.1 y)
  · have y' : K u ≠ 0 := fun e => y (z.trans e)
    have ft := wt.2.1 y
    have fu := wu.2.1 y'
    have rt : a_first (nI t).toNatClampNeg = nI (F t) := xe_r (by omega) (dt.2.1 y)
    have ru : a_first (nI u).toNatClampNeg = nI (F u) := xe_r (by omega) (du.2.1 y')
    have hft := hf (F t) (by omega)
    have hfu := hf (F u) (by omega)
    rw [rt, ru]
    refine And.intro it (And.intro (vp_in_nI (by omega) (by decide)) (And.intro iu (And.intro (vp_in_nI (by omega) (by decide)) (pk_eq (f (F t)) (f (F u)) (fun x => And.intro it (pk_eq (K t) 2 (fun v => ?_) (fun v => ?_) kt rfl (by omega) (by omega))) (fun x => ?_) (xe_r (by omega) (ho (F t) (by omega))) (xe_r (by omega) (ho (F u) (by omega))) (by omega) (by omega)))))
    · have gt := wt.2.2 v
      have gu := wu.2.2 (z.symm.trans v)
      have st : a_second (nI t).toNatClampNeg = nI (G t) := xe_r (by omega) (dt.2.2 v)
      have su : a_second (nI u).toNatClampNeg = nI (G u) := xe_r (by omega) (du.2.2 (z.symm.trans v))
      have hgt := hf (G t) (by omega)
      have hgu := hf (G u) (by omega)
      rw [st, su]
      refine And.intro it (And.intro (vp_in_nI (by omega) (by decide)) (And.intro iu (And.intro (vp_in_nI (by omega) (by decide)) (pk_eq (f (G t)) (f (G u)) (fun r => ?_) (fun r => ?_) (xe_r (by omega) (ho (G t) (by omega))) (xe_r (by omega) (ho (G u) (by omega))) (by omega) (by omega)))))
      · exact k1 ⟨z, y, x, fun _ => r⟩
      · exact k0 (fun g => r (g.2.2.2 v))
    · exact k1 ⟨z, y, x, fun e => absurd e v⟩
    · exact k0 (fun g => x g.2.2.1)
  · exact k0 (fun g => z g.1)
/-- one pass over all pairs -/
theorem yc_74 {post : SY → Prop} {J66 : Int32 → Int32 → Int32 → Int32 → Int32 → Int32 → Int32 → Int32 → (Nat → Int32) → (Nat → Int32) → (Nat → Int32) → (Nat → Int32) → (Nat → Int32) → (Nat → Int32) → (Nat → Int32) → (Nat → Int32) → (Nat → Int32) → (Nat → Int32) → (Nat → Int32) → Prop} (hw : en_W T K F G) (hD : en_D T K F G a_kind a_first a_second) (N : Nat)
    (k0 : ∀ (f : Nat → Nat) (o : Nat → Int32), ye_I T K F G E f → (∀ x y, E x y → f x = f y) → (∀ t, t < T → o t = nI (f t)) → (∀ t u, t < T → u < T → ye_al K F G f t u → f t = f u) → J66 0 (nI T) f_atoms f_clauses f_height f_models f_known f_closed a_kind a_first a_second a_left a_right a_literals a_stack o a_possible a_model a_classOf)
    (k1 : ∀ (f : Nat → Nat) (o : Nat → Int32), ye_I T K F G E f → (∀ x y, E x y → f x = f y) → (∀ t, t < T → o t = nI (f t)) → ct_n (fun t => f t = t) T < N → J66 1 (nI T) f_atoms f_clauses f_height f_models f_known f_closed a_kind a_first a_second a_left a_right a_literals a_stack o a_possible a_model a_classOf) :
    ∀ (d i n : Nat) (x2 : Int32) (f : Nat → Nat) (o : Nat → Int32), i + d = T * T → d < n → ye_I T K F G E f → (∀ x y, E x y → f x = f y) → (∀ t, t < T → o t = nI (f t)) → ((x2 = 0 ∧ ct_n (fun t => f t = t) T ≤ N ∧ ∀ k, k < i → ye_al K F G f (k / T) (k % T) → f (k / T) = f (k % T)) ∨ (x2 = 1 ∧ ct_n (fun t => f t = t) T < N)) →
    wY_close_74 post J66 n x2 (nI i) (nI T) f_atoms f_clauses f_height f_models f_known f_closed a_kind a_first a_second a_left a_right a_literals a_stack o a_possible a_model a_classOf
  | 0, i, n + 1, x2, f, o, hi, hn, hI, hE, ho, hx => by
    have hT := hw.1
    have tt : T * T ≤ 16 * 16 := Nat.mul_le_mul hT hT
    refine br_t (by rw [pk_mul]; exact nI_le (by omega) (by omega)) ?_
    rcases hx with ⟨rfl, _, h3⟩ | ⟨rfl, h2⟩
    · refine k0 f o hI hE ho (fun t u ht hu hal => ?_)
      have e1 : (t * T + u) / T = t := by
        rw [Nat.mul_comm, Nat.mul_add_div (by omega), Nat.div_eq_of_lt hu]; rfl
      have e2 : (t * T + u) % T = u := by
        rw [Nat.mul_comm, Nat.mul_add_mod, Nat.mod_eq_of_lt hu]
      have lt : t * T + u < T * T := by
        have := Nat.mul_le_mul_right T (show t + 1 ≤ T by omega)
        rw [Nat.add_mul] at this; omega
      have q := h3 (t * T + u) (by omega)
      rw [e1, e2] at q
      exact q hal
    · exact k1 f o hI hE ho h2
  | d + 1, i, n + 1, x2, f, o, hi, hn, hI, hE, ho, hx => by
    have hT := hw.1
    have tt : T * T ≤ 16 * 16 := Nat.mul_le_mul hT hT
    have T0 : 0 < T := by
      rcases Nat.eq_zero_or_pos T with z | z
      · rw [z] at hi; omega
      · exact z
    have iT : i / T < T := Nat.div_lt_of_lt_mul (by omega)
    have iM : i % T < T := Nat.mod_lt _ T0
    have nT : ¬ nI T = 0 := nI_ne0 T0 (by omega)
    have hf : ∀ t, t < T → f t < 16 := fun t h => by have := (hI.1 t h).1; omega
    have f1 := hf _ iT
    have f2 := hf _ iM
    have skip : (ye_al K F G f (i / T) (i % T) → f (i / T) = f (i % T)) → wY_close_74 post J66 n x2 (nI (i + 1)) (nI T) f_atoms f_clauses f_height f_models f_known f_closed a_kind a_first a_second a_left a_right a_literals a_stack o a_possible a_model a_classOf := fun hs =>
      yc_74 hw hD N k0 k1 d (i + 1) n x2 f o (by omega) (by omega) hI hE ho (hx.elim (fun ⟨a, b, e⟩ => Or.inl ⟨a, b, fun k hk => by
        by_cases z : k = i
        · rw [z]; exact hs
        · exact e k (by omega)⟩) Or.inr)
    refine br_f (by rw [pk_mul]; exact nI_ge (by omega) (by omega)) (And.intro nT (nm_r (e' := nI (i / T)) (pk_div (by omega) T0 (by omega)) (And.intro nT (nm_r (e' := nI (i % T)) (pk_rem (by omega) T0 (by omega)) (And.intro (vp_in_nI (by omega) (by decide)) (And.intro (vp_in_nI (by omega) (by decide)) (pk_eq (f (i / T)) (f (i % T)) (fun z => ?_) (fun z => ?_) (xe_r (by omega) (ho _ iT)) (xe_r (by omega) (ho _ iM)) (by omega) (by omega))))))))
    · exact nm_r (nI_1 _) (skip (fun _ => z))
    · refine yu_alike hw hD hI ho iT iM (fun hal => ?_) (fun hal => ?_)
      · refine br_f (by decide) (yu_unite hT hI ho iT iM (fun of' ho' => ?_))
        have hc : cc_C T K F G E (i / T) (i % T) := by
          obtain ⟨a1, a2, a3, a4⟩ := hal
          have w1 := hw.2 _ iT
          have w2 := hw.2 _ iM
          exact cc_cg iT iM a1 a2 (hI.2 _ _ (by have := w1.2.1 a2; omega) (by have := w2.2.1 (fun e => a2 (a1.trans e)); omega) a3) (fun y => hI.2 _ _ (by have := w1.2.2 y; omega) (by have := w2.2.2 (a1.symm.trans y); omega) (a4 y))
        have hn2 := ye_mn hI iT iM z
        refine nm_r (nI_1 _) (yc_74 hw hD N k0 k1 d (i + 1) n 1 _ of' (by omega) (by omega) (ye_mI hI iT iM hc) (fun x y e => ye_me (hE x y e)) ho' (Or.inr ⟨rfl, ?_⟩))
        rcases hx with ⟨_, h2, _⟩ | ⟨_, h2⟩ <;> omega
      · exact br_t rfl (nm_r (nI_1 _) (skip (fun g => absurd g hal)))
theorem yc_66 {post : SY → Prop} (hw : en_W T K F G) (hD : en_D T K F G a_kind a_first a_second) (hE0 : ∀ x y, E x y → x < T ∧ y < T)
    (kk : ∀ (f : Nat → Nat) (o : Nat → Int32), ye_L T K F G E f → (∀ t, t < T → o t = nI (f t)) → post (nI T, f_atoms, f_clauses, f_height, f_models, f_known, f_closed, a_kind, a_first, a_second, a_left, a_right, a_literals, a_stack, o, a_possible, a_model, a_classOf)) :
    ∀ (n : Nat) (f : Nat → Nat) (o : Nat → Int32), ct_n (fun t => f t = t) T + 2 ≤ n → ye_I T K F G E f → (∀ x y, E x y → f x = f y) → (∀ t, t < T → o t = nI (f t)) → wY_close_66 post n 1 (nI T) f_atoms f_clauses f_height f_models f_known f_closed a_kind a_first a_second a_left a_right a_literals a_stack o a_possible a_model a_classOf
  | n + 1, f, o, hn, hI, hE, ho => by
    refine br_f (by decide) ⟨T * T + 1, ?_⟩
    refine yc_74 (E := E) hw hD (ct_n (fun t => f t = t) T) ?_ ?_ (T * T) 0 (T * T + 1) 0 f o (by omega) (by omega) hI hE ho (Or.inl ⟨rfl, Nat.le_refl _, fun k hk => absurd hk (Nat.not_lt_zero k)⟩)
    · intro f' o' g1 g2 g3 g4
      obtain ⟨k, rfl⟩ : ∃ k, n = k + 1 := ⟨n - 1, by omega⟩
      exact br_t rfl (kk f' o' (ye_done hw hE0 g1 g2 g4) g3)
    · intro f' o' g1 g2 g3 g4
      exact yc_66 hw hD hE0 kk n f' o' (by omega) g1 g2 g3
variable {A : Nat} {L R : Nat → Nat}
theorem yc_25 {post : SY → Prop} (hw : en_W T K F G) (hD : en_D T K F G a_kind a_first a_second) (hA : aw_W T A L R) (hB : aw_D A L R a_left a_right) {w : Nat} (hww : w < 256)
    (kk : ∀ (f : Nat → Nat) (o : Nat → Int32), ye_L T K F G (wy_E A L R w) f → (∀ t, t < T → o t = nI (f t)) → post (nI T, nI A, f_clauses, f_height, f_models, f_known, f_closed, a_kind, a_first, a_second, a_left, a_right, a_literals, a_stack, o, a_possible, a_model, a_classOf)) :
    ∀ (d i n : Nat) (f : Nat → Nat) (o : Nat → Int32), i + d = A → d < n → ye_I T K F G (wy_E A L R w) f → (∀ a, a < i → w.testBit a = true → f (L a) = f (R a)) → (∀ t, t < T → o t = nI (f t)) → wY_close_25 post (nI w) n (nI i) (nI T) (nI A) f_clauses f_height f_models f_known f_closed a_kind a_first a_second a_left a_right a_literals a_stack o a_possible a_model a_classOf
  | 0, i, n + 1, f, o, hi, hn, hI, hE, ho => by
    have h8 := hA.1
    refine br_t (nI_le (by omega) (by omega)) ⟨ct_n (fun t => f t = t) T + 2, yc_66 hw hD (wy_lt hA) kk _ f o (Nat.le_refl _) hI ?_ ho⟩
    rintro x y ⟨a, a1, a2, a3, a4⟩
    rw [a3, a4]; exact hE a (by omega) a2
  | d + 1, i, n + 1, f, o, hi, hn, hI, hE, ho => by
    have h8 := hA.1
    have hT := hw.1
    have ii : vp_in (nI i) 8 := vp_in_nI (by omega) (by decide)
    have lr := hA.2 i (by omega)
    have ql : a_left (nI i).toNatClampNeg = nI (L i) := xe_r (by omega) (hB i (by omega)).1
    have qr : a_right (nI i).toNatClampNeg = nI (R i) := xe_r (by omega) (hB i (by omega)).2
    refine br_f (nI_ge (by omega) (by omega)) ?_
    rw [bw_at (by omega) (by omega), ql, qr]
    refine pk_eq (w / 2 ^ i % 2) 1 (fun z => ?_) (fun z => ?_) rfl rfl (by omega) (by omega)
    · refine And.intro ii (And.intro ii (yu_unite hT hI ho lr.1 lr.2 (fun of' ho' => ?_)))
      have hc : cc_C T K F G (wy_E A L R w) (L i) (R i) := cc_in ⟨i, by omega, wt_1.mpr z, rfl, rfl⟩
      refine nm_r (nI_1 _) (yc_25 hw hD hA hB hww kk d (i + 1) n _ of' (by omega) (by omega) (ye_mI hI lr.1 lr.2 hc) (fun a ha hb => ?_) ho')
      by_cases y : a = i
      · rw [y]; exact ye_mj
      · exact ye_me (hE a (by omega) hb)
    · refine nm_r (nI_1 _) (yc_25 hw hD hA hB hww kk d (i + 1) n f o (by omega) (by omega) hI (fun a ha hb => ?_) ho)
      by_cases y : a = i
      · rw [y, wt_1] at hb; exact absurd hb z
      · exact hE a (by omega) hb
theorem yc_2 {post : SY → Prop} (hw : en_W T K F G) (hD : en_D T K F G a_kind a_first a_second) (hA : aw_W T A L R) (hB : aw_D A L R a_left a_right) {w : Nat} (hww : w < 256)
    (kk : ∀ (f : Nat → Nat) (o : Nat → Int32), ye_L T K F G (wy_E A L R w) f → (∀ t, t < T → o t = nI (f t)) → post (nI T, nI A, f_clauses, f_height, f_models, f_known, f_closed, a_kind, a_first, a_second, a_left, a_right, a_literals, a_stack, o, a_possible, a_model, a_classOf)) :
    ∀ (d i n : Nat) (o : Nat → Int32), i + d = T → d < n → (∀ t, t < i → o t = nI t) → wY_close_2 post (nI w) (nI T) (nI A) f_clauses f_height f_models f_known f_closed n (nI i) a_kind a_first a_second a_left a_right a_literals a_stack o a_possible a_model a_classOf
  | 0, i, n + 1, o, hi, hn, ho => by
    have hT := hw.1
    refine br_t (nI_le (by omega) (by omega)) ⟨A + 1, yc_25 hw hD hA hB hww kk A 0 (A + 1) (fun t => t) o (by omega) (by omega) ⟨fun t ht => ⟨Nat.le_refl _, rfl⟩, fun t u ht hu e => ?_⟩ (fun a ha => absurd ha (Nat.not_lt_zero a)) (fun t ht => ho t (by omega))⟩
    have e' : t = u := e
    rw [e']; exact cc_rf u
  | d + 1, i, n + 1, o, hi, hn, ho => by
    have hT := hw.1
    refine br_f (nI_ge (by omega) (by omega)) (And.intro (vp_in_nI (by omega) (by decide)) (nm_r (xe_u (by omega) rfl) (nm_r (nI_1 _) (yc_2 hw hD hA hB hww kk d (i + 1) n (upd o i (nI i)) (by omega) (by omega) (fun t ht => ?_)))))
    by_cases y : t = i
    · rw [y, pk_us]
    · rw [pk_un y]; exact ho t (by omega)
theorem yc_close {post : SY → Prop} (hw : en_W T K F G) (hD : en_D T K F G a_kind a_first a_second) (hA : aw_W T A L R) (hB : aw_D A L R a_left a_right) {w : Nat} (hww : w < 256)
    (kk : ∀ (f : Nat → Nat) (o : Nat → Int32), ye_L T K F G (wy_E A L R w) f → (∀ t, t < T → o t = nI (f t)) → post (nI T, nI A, f_clauses, f_height, f_models, f_known, f_closed, a_kind, a_first, a_second, a_left, a_right, a_literals, a_stack, o, a_possible, a_model, a_classOf)) : wpY_close post (nI T, nI A, f_clauses, f_height, f_models, f_known, f_closed, a_kind, a_first, a_second, a_left, a_right, a_literals, a_stack, a_of, a_possible, a_model, a_classOf) (nI w) :=
  ⟨T + 1, yc_2 hw hD hA hB hww kk T 0 (T + 1) a_of (by omega) (by omega) (fun t ht => absurd ht (Nat.not_lt_zero t))⟩
end
end
section
/-! Y: fits, satisfies, closeAll, learn -/
def cw_Y (C : Nat) (hs : Nat → Nat → Prop) (al : Nat → Int32) : Prop := ∀ i, i < C → (∀ j, j < 3 → al (3 * i + j) < 0 ∨ ∃ q, hs i q ∧ al (3 * i + j) = nI q) ∧ (∀ q, hs i q → ∃ j, j < 3 ∧ al (3 * i + j) = nI q)
/-- just the way's atoms are equal -/
def ps_P (T : Nat) (K F G : Nat → Nat) (A : Nat) (L R : Nat → Nat) (w : Nat) : Prop := ∀ a, a < A → wy_C T K F G A L R w (L a) (R a) → w.testBit a = true
def st_P (C : Nat) (hs : Nat → Nat → Prop) (H : Nat) (S : Nat → Nat) (w : Nat) : Prop := (∀ k, k < H → wy_h w (S k)) ∧ (∀ i, i < C → ∃ q, hs i q ∧ wy_h w q)
theorem md_iff {T : Nat} {K F G : Nat → Nat} {A : Nat} {L R : Nat → Nat} {C : Nat} {hs : Nat → Nat → Prop} {H : Nat} {S : Nat → Nat} (hc : cw_W A C hs) (hS : sw_W A H S) {w : Nat} : md_P T K F G A L R C hs H S w ↔ (w < 2 ^ A ∧ ps_P T K F G A L R w ∧ st_P C hs H S w) := by
  unfold md_P ok_P ps_P st_P
  constructor
  · rintro ⟨h1, h2, h3, h4⟩
    refine ⟨h1, h2, fun k hk => h3 k hk (by have := hS.2 k hk; omega), fun i hi => ?_⟩
    obtain ⟨q, q1, q2⟩ := h4 i hi
    rcases q2 with q2 | q2
    · have := (hc.2 i hi).1 q q1; omega
    · exact ⟨q, q1, q2⟩
  · rintro ⟨h1, h2, h3, h4⟩
    refine ⟨h1, h2, fun k hk _ => h3 k hk, fun i hi => ?_⟩
    obtain ⟨q, q1, q2⟩ := h4 i hi
    exact ⟨q, q1, Or.inr q2⟩
/-- the classes by each way below N, and whether it is possible -/
def ci_P (T : Nat) (K F G : Nat → Nat) (A : Nat) (L R : Nat → Nat) (N : Nat) (po co : Nat → Int32) : Prop := ∀ w, w < N → ((ps_P T K F G A L R w ∧ po w = 1) ∨ (¬ ps_P T K F G A L R w ∧ po w = 0)) ∧ ∃ f, ye_L T K F G (wy_E A L R w) f ∧ ∀ t, t < T → co (16 * w + t) = nI (f t)
/-- the models, one behind another -/
def ml_P (M : Nat → Prop) (N : Nat) (ms : Int32) (mo : Nat → Int32) : Prop := ms = nI (ct_n M N) ∧ ∀ w, w < N → M w → mo (ct_n M w) = nI w
theorem yh_in {post : Int32 → Prop} {w s : Nat} (hw : w < 256) (hs : s < 16) (k1 : wy_h w s → post 1) (k0 : ¬ wy_h w s → post 0) : wpY_holdsIn post (nI w) (nI s) := by
  have e1 : nI s / 2 = nI (s / 2) := pk_div (a := s) (d := 2) (by omega) (by omega) (by omega)
  have e2 : nI s - nI s / 2 * 2 = nI (s % 2) := pk_rem (a := s) (d := 2) (by omega) (by omega) (by omega)
  refine And.intro (by decide) (And.intro (by decide) ?_)
  rw [e2, e1, bw_at (by omega) (by omega)]
  exact pk_eq _ _ (fun z => k0 (fun g => g z)) (fun z => k1 z) rfl rfl (by omega) (by omega)
theorem yl_or {x : Int32} (h : x = 0 ∨ x = 1) : x ||| 0 = x ∧ x ||| 1 = 1 := by
  rcases h with rfl | rfl
  · exact ⟨by decide, by decide⟩
  · exact ⟨by decide, by decide⟩
theorem yl_3 (i : Nat) : (3 : Int32) * nI i = nI (3 * i) := pk_mul 3 i
theorem yl_33 (i : Nat) : ((3 : Int32) * nI i) + 3 = nI (3 * i + 3) := by rw [yl_3]; exact nI_add _ 3
section
variable {f_terms f_atoms f_clauses f_height f_models f_known f_closed : Int32} {a_kind a_first a_second a_left a_right a_literals a_stack a_of a_possible a_model a_classOf : Nat → Int32}
variable {T : Nat} {K F G : Nat → Nat} {A : Nat} {L R : Nat → Nat} {C : Nat} {hs : Nat → Nat → Prop} {H : Nat} {S : Nat → Nat}
theorem yl_fits {post : Int32 → Prop} (hT : T ≤ 16) (hA : aw_W T A L R) (hB : aw_D A L R a_left a_right) {w : Nat} (hww : w < 256) {f : Nat → Nat} (hf : ye_L T K F G (wy_E A L R w) f) (ho : ∀ t, t < T → a_of t = nI (f t)) (k1 : ps_P T K F G A L R w → post 1) (k0 : ¬ ps_P T K F G A L R w → post 0) :
    ∀ (d i n : Nat), i + d = A → d < n → (∀ a, a < i → wy_C T K F G A L R w (L a) (R a) → w.testBit a = true) → wY_fits_2 post (nI w) f_terms (nI A) f_clauses f_height f_models f_known f_closed a_kind a_first a_second a_left a_right a_literals a_stack a_of a_possible a_model a_classOf n (nI i)
  | 0, i, n + 1, hi, hn, hj => by
    have h8 := hA.1
    exact br_t (nI_le (by omega) (by omega)) (k1 (fun a ha => hj a (by omega)))
  | d + 1, i, n + 1, hi, hn, hj => by
    have h8 := hA.1
    have ii : vp_in (nI i) 8 := vp_in_nI (by omega) (by decide)
    have lr := hA.2 i (by omega)
    have fl := hf (L i) lr.1
    have fr := hf (R i) lr.2
    have ql : a_left (nI i).toNatClampNeg = nI (L i) := xe_r (by omega) (hB i (by omega)).1
    have qr : a_right (nI i).toNatClampNeg = nI (R i) := xe_r (by omega) (hB i (by omega)).2
    refine br_f (nI_ge (by omega) (by omega)) ?_
    rw [bw_at (by omega) (by omega), ql, qr]
    refine pk_eq (w / 2 ^ i % 2) 0 (fun z => ?_) (fun z => ?_) rfl rfl (by omega) (by omega)
    · have zf := wt_0.mpr z
      refine And.intro ii (And.intro (vp_in_nI (by omega) (by decide)) (And.intro ii (And.intro (vp_in_nI (by omega) (by decide)) (pk_eq (f (L i)) (f (R i)) (fun y => ?_) (fun y => ?_) (xe_r (by omega) (ho _ lr.1)) (xe_r (by omega) (ho _ lr.2)) (by omega) (by omega)))))
      · refine k0 (fun g => ?_)
        have := g i (by omega) ((fl.2.2 (R i) lr.2).mp y)
        rw [zf] at this; exact absurd this (by decide)
      · refine nm_r (nI_1 _) (yl_fits hT hA hB hww hf ho k1 k0 d (i + 1) n (by omega) (by omega) (fun a ha hb => ?_))
        by_cases x : a = i
        · rw [x] at hb; exact absurd ((fl.2.2 (R i) lr.2).mpr hb) y
        · exact hj a (by omega) hb
    · refine nm_r (nI_1 _) (yl_fits hT hA hB hww hf ho k1 k0 d (i + 1) n (by omega) (by omega) (fun a ha hb => ?_))
      by_cases x : a = i
      · rw [x]; exact wt_1.mpr (by omega)
      · exact hj a (by omega) hb
theorem yl_50 {post : Int32 → Prop} {J35 : Int32 → Prop} (hc : cw_W A C hs) (hA8 : A ≤ 8) (hy : cw_Y C hs a_literals) {w i : Nat} (hww : w < 256) (hi : i < C) (k0 : ¬ (∃ q, hs i q ∧ wy_h w q) → post 0) (k1 : (∃ q, hs i q ∧ wy_h w q) → J35 (nI (i + 1))) :
    ∀ (d j n : Nat) (x3 : Int32), j + d = 3 → d < n → ((x3 = 0 ∧ ∀ m, m < j → ∀ q, a_literals (3 * i + m) = nI q → hs i q → ¬ wy_h w q) ∨ (x3 = 1 ∧ ∃ q, hs i q ∧ wy_h w q)) → wY_satisfies_50 post J35 (nI w) (nI i) f_terms f_atoms f_clauses f_height f_models f_known f_closed a_kind a_first a_second a_left a_right a_literals a_stack a_of a_possible a_model a_classOf n x3 (nI (3 * i + j))
  | 0, j, n + 1, x3, hj, hn, hx => by
    have h12 := hc.1
    have e : j = 3 := by omega
    subst e
    refine br_t (by rw [yl_33]; exact Int32.le_refl _) ?_
    rcases hx with ⟨rfl, h⟩ | ⟨rfl, h⟩
    · refine br_t rfl (k0 (fun ⟨q, q1, q2⟩ => ?_))
      obtain ⟨m, m1, m2⟩ := (hy i hi).2 q q1
      exact h m m1 q m2 q1 q2
    · exact br_f (by decide) (nm_r (nI_1 _) (k1 h))
  | d + 1, j, n + 1, x3, hj, hn, hx => by
    have h12 := hc.1
    have ii : vp_in (nI (3 * i + j)) 36 := vp_in_nI (by omega) (by decide)
    have x01 : x3 = 0 ∨ x3 = 1 := hx.elim (fun z => Or.inl z.1) (fun z => Or.inr z.1)
    have rl : a_literals (nI (3 * i + j)).toNatClampNeg = a_literals (3 * i + j) := xe_r (by omega) rfl
    have keep : ((x3 = 0 → ∀ q, a_literals (3 * i + j) = nI q → hs i q → ¬ wy_h w q)) → wY_satisfies_50 post J35 (nI w) (nI i) f_terms f_atoms f_clauses f_height f_models f_known f_closed a_kind a_first a_second a_left a_right a_literals a_stack a_of a_possible a_model a_classOf n x3 (nI (3 * i + j + 1)) := fun g =>
      yl_50 hc hA8 hy hww hi k0 k1 d (j + 1) n x3 (by omega) (by omega) (hx.elim (fun ⟨a, b⟩ => Or.inl ⟨a, fun m hm => by
        by_cases z : m = j
        · rw [z]; exact g a
        · exact b m (by omega)⟩) Or.inr)
    refine br_f (by rw [yl_33]; exact nI_ge (by omega) (by omega)) (And.intro ii ?_)
    rw [rl]
    rcases (hy i hi).1 j (by omega) with hl | ⟨q, q1, q2⟩
    · refine br_t hl (nm_r (yl_or x01).1 (nm_r (nI_1 _) (keep (fun _ q eq => ?_))))
      intro hq
      have q16 := (hc.2 i hi).1 q hq
      rw [eq] at hl
      exact absurd hl (nI_pos (by omega))
    · have q16 := (hc.2 i hi).1 q q1
      rw [q2]
      refine br_f (nI_pos (by omega)) (And.intro ii (yh_in hww (by omega) (fun z => ?_) (fun z => ?_)))
      · exact br_f (by decide) (nm_r (yl_or x01).2 (nm_r (nI_1 _) (yl_50 hc hA8 hy hww hi k0 k1 d (j + 1) n 1 (by omega) (by omega) (Or.inr ⟨rfl, q, q1, z⟩))))
      · refine br_t rfl (nm_r (yl_or x01).1 (nm_r (nI_1 _) (keep (fun _ p ep hp => ?_))))
        have p16 := (hc.2 i hi).1 p hp
        have e := (nI_eq (a := q) (b := p) (by omega) (by omega)).mp (q2.symm.trans ep)
        rw [← e]; exact z
theorem yl_35 {post : Int32 → Prop} (hc : cw_W A C hs) (hA8 : A ≤ 8) (hy : cw_Y C hs a_literals) {w : Nat} (hww : w < 256) (k0 : ¬ (∀ i, i < C → ∃ q, hs i q ∧ wy_h w q) → post 0) (k1 : (∀ i, i < C → ∃ q, hs i q ∧ wy_h w q) → post 1) :
    ∀ (d i n : Nat), i + d = C → d < n → (∀ j, j < i → ∃ q, hs j q ∧ wy_h w q) → wY_satisfies_35 post (nI w) f_terms f_atoms (nI C) f_height f_models f_known f_closed a_kind a_first a_second a_left a_right a_literals a_stack a_of a_possible a_model a_classOf n (nI i)
  | 0, i, n + 1, hi, hn, hj => by
    have h12 := hc.1
    exact br_t (nI_le (by omega) (by omega)) (k1 (fun j h => hj j (by omega)))
  | d + 1, i, n + 1, hi, hn, hj => by
    have h12 := hc.1
    refine br_f (nI_ge (by omega) (by omega)) (nm_r (e' := nI (3 * i + 0)) (yl_3 i) ⟨4, yl_50 hc hA8 hy hww (show i < C by omega) (fun g => k0 (fun z => g (z i (by omega)))) (fun g => ?_) 3 0 4 0 (by omega) (by omega) (Or.inl ⟨rfl, fun m hm => absurd hm (Nat.not_lt_zero m)⟩)⟩)
    refine yl_35 hc hA8 hy hww k0 k1 d (i + 1) n (by omega) (by omega) (fun j h => ?_)
    by_cases z : j = i
    · rw [z]; exact g
    · exact hj j (by omega)
theorem yl_2 {post : Int32 → Prop} (hc : cw_W A C hs) (hA8 : A ≤ 8) (hy : cw_Y C hs a_literals) (hS : sw_W A H S) (hSD : sw_D H S a_stack) {w : Nat} (hww : w < 256) (k0 : ¬ st_P C hs H S w → post 0) (k1 : st_P C hs H S w → post 1) :
    ∀ (d i n : Nat), i + d = H → d < n → (∀ k, k < i → wy_h w (S k)) → wY_satisfies_2 post (nI w) f_terms f_atoms (nI C) (nI H) f_models f_known f_closed a_kind a_first a_second a_left a_right a_literals a_stack a_of a_possible a_model a_classOf n (nI i)
  | 0, i, n + 1, hi, hn, hj => by
    have h8 := hS.1
    exact br_t (nI_le (by omega) (by omega)) ⟨C + 1, yl_35 hc hA8 hy hww (fun g => k0 (fun z => g z.2)) (fun g => k1 ⟨fun k hk => hj k (by omega), g⟩) C 0 (C + 1) (by omega) (by omega) (fun j hj => absurd hj (Nat.not_lt_zero j))⟩
  | d + 1, i, n + 1, hi, hn, hj => by
    have h8 := hS.1
    have si := hS.2 i (by omega)
    have rs : a_stack (nI i).toNatClampNeg = nI (S i) := xe_r (by omega) (hSD i (by omega))
    refine br_f (nI_ge (by omega) (by omega)) (And.intro (vp_in_nI (by omega) (by decide)) ?_)
    rw [rs]
    refine yh_in hww (by omega) (fun z => ?_) (fun z => ?_)
    · refine br_f (by decide) (nm_r (nI_1 _) (yl_2 hc hA8 hy hS hSD hww k0 k1 d (i + 1) n (by omega) (by omega) (fun k hk => ?_)))
      by_cases y : k = i
      · rw [y]; exact z
      · exact hj k (by omega)
    · exact br_t rfl (k0 (fun g => z (g.1 i (by omega))))
theorem yl_sat {post : Int32 → Prop} (hc : cw_W A C hs) (hA8 : A ≤ 8) (hy : cw_Y C hs a_literals) (hS : sw_W A H S) (hSD : sw_D H S a_stack) {w : Nat} (hww : w < 256) (k0 : ¬ st_P C hs H S w → post 0) (k1 : st_P C hs H S w → post 1) : wpY_satisfies post (f_terms, f_atoms, nI C, nI H, f_models, f_known, f_closed, a_kind, a_first, a_second, a_left, a_right, a_literals, a_stack, a_of, a_possible, a_model, a_classOf) (nI w) :=
  ⟨H + 1, yl_2 hc hA8 hy hS hSD hww k0 k1 H 0 (H + 1) (by omega) (by omega) (fun j hj => absurd hj (Nat.not_lt_zero j))⟩
theorem yl_43 {post : SY → Prop} {J15 : Int32 → Int32 → Int32 → Int32 → Int32 → Int32 → Int32 → Int32 → (Nat → Int32) → (Nat → Int32) → (Nat → Int32) → (Nat → Int32) → (Nat → Int32) → (Nat → Int32) → (Nat → Int32) → (Nat → Int32) → (Nat → Int32) → (Nat → Int32) → (Nat → Int32) → Prop} (hT : T ≤ 16) {w : Nat} (hww : w < 256) {f : Nat → Nat} (ho : ∀ t, t < T → a_of t = nI (f t)) {co0 : Nat → Int32} (kk : ∀ co : Nat → Int32, (∀ j, j < 16 * w → co j = co0 j) → (∀ t, t < T → co (16 * w + t) = nI (f t)) → J15 (nI (w + 1)) (nI T) f_atoms f_clauses f_height f_models f_known f_closed a_kind a_first a_second a_left a_right a_literals a_stack a_of a_possible a_model co) :
    ∀ (d i n : Nat) (co : Nat → Int32), i + d = T → d < n → (∀ j, j < 16 * w → co j = co0 j) → (∀ t, t < i → co (16 * w + t) = nI (f t)) → wY_closeAll_43 post J15 (nI w) (nI T) f_atoms f_clauses f_height f_models f_known f_closed n (nI i) a_kind a_first a_second a_left a_right a_literals a_stack a_of a_possible a_model co
  | 0, i, n + 1, co, hi, hn, h1, h2 => br_t (nI_le (by omega) (by omega)) (nm_r (nI_1 _) (kk co h1 (fun t ht => h2 t (by omega))))
  | d + 1, i, n + 1, co, hi, hn, h1, h2 => by
    have e16 : ((16 : Int32) * nI w) + nI i = nI (16 * w + i) := by
      rw [show (16 : Int32) * nI w = nI (16 * w) from pk_mul 16 w, nI_add]
    have ro : a_of (nI i).toNatClampNeg = nI (f i) := xe_r (by omega) (ho i (by omega))
    refine br_f (nI_ge (by omega) (by omega)) (And.intro (vp_in_nI (by omega) (by decide)) ?_)
    rw [e16, ro]
    refine And.intro (vp_in_nI (by omega) (by decide)) (nm_r (xe_u (by omega) rfl) (nm_r (nI_1 _) (yl_43 hT hww ho kk d (i + 1) n (upd co (16 * w + i) (nI (f i))) (by omega) (by omega) (fun j hj => ?_) (fun t ht => ?_))))
    · rw [pk_un (by omega)]; exact h1 j hj
    · by_cases z : t = i
      · rw [z, pk_us]
      · rw [pk_un (by omega)]; exact h2 t (by omega)
theorem yl_15 {post : SY → Prop} (hw : en_W T K F G) (hD : en_D T K F G a_kind a_first a_second) (hA : aw_W T A L R) (hB : aw_D A L R a_left a_right) (kk : ∀ o po co : Nat → Int32, ci_P T K F G A L R (2 ^ A) po co → post (nI T, nI A, f_clauses, f_height, f_models, f_known, f_closed, a_kind, a_first, a_second, a_left, a_right, a_literals, a_stack, o, po, a_model, co)) :
    ∀ (d i n : Nat) (o po co : Nat → Int32), i + d = 2 ^ A → d < n → ci_P T K F G A L R i po co → wY_closeAll_15 post n (nI i) (nI T) (nI A) f_clauses f_height f_models f_known f_closed a_kind a_first a_second a_left a_right a_literals a_stack o po a_model co
  | 0, i, n + 1, o, po, co, hi, hn, h => by
    have h8 := hA.1
    have e : i = 2 ^ A := by omega
    subst e
    have p8 : 2 ^ A ≤ 2 ^ 8 := Nat.pow_le_pow_right (by decide) h8
    refine br_t (by rw [bw_pw A (by omega)]; exact Int32.le_refl _) (kk o po co h)
  | d + 1, i, n + 1, o, po, co, hi, hn, h => by
    have h8 := hA.1
    have hT := hw.1
    have p8 : 2 ^ A ≤ 2 ^ 8 := Nat.pow_le_pow_right (by decide) h8
    have i256 : i < 256 := by omega
    refine br_f (by rw [bw_pw A (by omega)]; exact nI_ge (by omega) (by omega)) (yc_close hw hD hA hB i256 (fun f o1 hf ho => ?_))
    have fin : ∀ v : Int32, ((ps_P T K F G A L R i ∧ v = 1) ∨ (¬ ps_P T K F G A L R i ∧ v = 0)) → ∃ n43, wY_closeAll_43 post (wY_closeAll_15 post n) (nI i) (nI T) (nI A) f_clauses f_height f_models f_known f_closed n43 0 a_kind a_first a_second a_left a_right a_literals a_stack o1 (upd po i v) a_model co := fun v hv =>
      ⟨T + 1, yl_43 hT i256 ho (co0 := co) (fun co1 c1 c2 => yl_15 hw hD hA hB kk d (i + 1) n o1 (upd po i v) co1 (by omega) (by omega) (fun w hww => by
        by_cases z : w = i
        · rw [z, pk_us]; exact ⟨hv, f, hf, c2⟩
        · have q := h w (by omega)
          rw [pk_un z]
          obtain ⟨q1, f', q2, q3⟩ := q
          exact ⟨q1, f', q2, fun t ht => by rw [c1 _ (by omega)]; exact q3 t ht⟩)) T 0 (T + 1) co (by omega) (by omega) (fun _ _ => rfl) (fun t ht => absurd ht (Nat.not_lt_zero t))⟩
    refine ⟨A + 1, yl_fits hT hA hB i256 hf ho (fun g => ?_) (fun g => ?_) A 0 (A + 1) (by omega) (by omega) (fun j hj => absurd hj (Nat.not_lt_zero j))⟩
    · exact And.intro (vp_in_nI (by omega) (by decide)) (nm_r (e' := upd po i 1) (xe_u (by omega) rfl) (fin 1 (Or.inl ⟨g, rfl⟩)))
    · exact And.intro (vp_in_nI (by omega) (by decide)) (nm_r (e' := upd po i 0) (xe_u (by omega) rfl) (fin 0 (Or.inr ⟨g, rfl⟩)))
theorem yl_closeAll {post : SY → Prop} (hw : en_W T K F G) (hD : en_D T K F G a_kind a_first a_second) (hA : aw_W T A L R) (hB : aw_D A L R a_left a_right) (hcl : f_closed = 0 ∨ (f_closed = 1 ∧ ci_P T K F G A L R (2 ^ A) a_possible a_classOf)) (kk : ∀ o po co : Nat → Int32, ci_P T K F G A L R (2 ^ A) po co → post (nI T, nI A, f_clauses, f_height, f_models, f_known, 1, a_kind, a_first, a_second, a_left, a_right, a_literals, a_stack, o, po, a_model, co)) : wpY_closeAll post (nI T, nI A, f_clauses, f_height, f_models, f_known, f_closed, a_kind, a_first, a_second, a_left, a_right, a_literals, a_stack, a_of, a_possible, a_model, a_classOf) := by
  rcases hcl with rfl | ⟨rfl, h⟩
  · exact br_t rfl ⟨2 ^ A + 1, yl_15 hw hD hA hB kk (2 ^ A) 0 (2 ^ A + 1) a_of a_possible a_classOf (by omega) (by omega) (fun w hww => absurd hww (Nat.not_lt_zero w))⟩
  · exact br_f (by decide) (kk a_of a_possible a_classOf h)
theorem yl_24 {post : SY → Prop} (hw : en_W T K F G) (hD : en_D T K F G a_kind a_first a_second) (hA : aw_W T A L R) (hB : aw_D A L R a_left a_right) (hc : cw_W A C hs) (hy : cw_Y C hs a_literals) (hS : sw_W A H S) (hSD : sw_D H S a_stack) (hci : ci_P T K F G A L R (2 ^ A) a_possible a_classOf) (kk : ∀ (ms : Int32) (mo : Nat → Int32), ml_P (md_P T K F G A L R C hs H S) (2 ^ A) ms mo → post (nI T, nI A, nI C, nI H, ms, f_known, f_closed, a_kind, a_first, a_second, a_left, a_right, a_literals, a_stack, a_of, a_possible, mo, a_classOf)) :
    ∀ (d i n : Nat) (mo : Nat → Int32), i + d = 2 ^ A → d < n → (∀ w, w < i → md_P T K F G A L R C hs H S w → mo (ct_n (md_P T K F G A L R C hs H S) w) = nI w) → wY_learn_24 post (nI T) (nI A) (nI C) (nI H) f_known f_closed n (nI i) (nI (ct_n (md_P T K F G A L R C hs H S) i)) a_kind a_first a_second a_left a_right a_literals a_stack a_of a_possible mo a_classOf
  | 0, i, n + 1, mo, hi, hn, h => by
    have h8 := hA.1
    have e : i = 2 ^ A := by omega
    subst e
    have p8 : 2 ^ A ≤ 2 ^ 8 := Nat.pow_le_pow_right (by decide) h8
    refine br_t (by rw [bw_pw A (by omega)]; exact Int32.le_refl _) (kk _ mo ⟨rfl, h⟩)
  | d + 1, i, n + 1, mo, hi, hn, h => by
    have h8 := hA.1
    have p8 : 2 ^ A ≤ 2 ^ 8 := Nat.pow_le_pow_right (by decide) h8
    have i256 : i < 256 := by omega
    have ii : vp_in (nI i) 256 := vp_in_nI i256 (by decide)
    have cl := ct_le (md_P T K F G A L R C hs H S) i
    have skip : ¬ md_P T K F G A L R C hs H S i → wY_learn_24 post (nI T) (nI A) (nI C) (nI H) f_known f_closed n (nI (i + 1)) (nI (ct_n (md_P T K F G A L R C hs H S) i)) a_kind a_first a_second a_left a_right a_literals a_stack a_of a_possible mo a_classOf := fun g => by
      have ih := yl_24 hw hD hA hB hc hy hS hSD hci kk d (i + 1) n mo (by omega) (by omega) (fun w hww hm => by
        by_cases z : w = i
        · rw [z] at hm; exact absurd hm g
        · exact h w (by omega) hm)
      have e : ct_n (md_P T K F G A L R C hs H S) (i + 1) = ct_n (md_P T K F G A L R C hs H S) i := by
        show ct_n (md_P T K F G A L R C hs H S) i + ct_b (md_P T K F G A L R C hs H S i) = _
        rw [ct_b0 g]; rfl
      rw [e] at ih; exact ih
    refine br_f (by rw [bw_pw A (by omega)]; exact nI_ge (by omega) (by omega)) (And.intro ii ?_)
    rcases (hci i (by omega)).1 with ⟨p1, p2⟩ | ⟨p1, p2⟩
    · rw [xe_r (a := a_possible) (by omega) p2]
      refine br_f (by decide) (yl_sat hc h8 hy hS hSD i256 (fun g => ?_) (fun g => ?_))
      · exact br_t rfl (nm_r (nI_1 _) (skip (fun z => g ((md_iff hc hS).mp z).2.2)))
      · have g' : md_P T K F G A L R C hs H S i := (md_iff hc hS).mpr ⟨by omega, p1, g⟩
        have e : ct_n (md_P T K F G A L R C hs H S) (i + 1) = ct_n (md_P T K F G A L R C hs H S) i + 1 := by
          show ct_n (md_P T K F G A L R C hs H S) i + ct_b (md_P T K F G A L R C hs H S i) = _
          rw [ct_b1 g']
        have ih := yl_24 hw hD hA hB hc hy hS hSD hci kk d (i + 1) n (upd mo (ct_n (md_P T K F G A L R C hs H S) i) (nI i)) (by omega) (by omega) (fun w hww hm => by
          by_cases z : w = i
          · rw [z, pk_us]
          · have lt : ct_n (md_P T K F G A L R C hs H S) w < ct_n (md_P T K F G A L R C hs H S) i := by
              have m1 : ct_n (md_P T K F G A L R C hs H S) (w + 1) ≤ ct_n (md_P T K F G A L R C hs H S) i := by
                have : ∀ k, w + 1 + k ≤ i → ct_n (md_P T K F G A L R C hs H S) (w + 1) ≤ ct_n (md_P T K F G A L R C hs H S) (w + 1 + k) := by
                  intro k
                  induction k with
                  | zero => intro _; exact Nat.le_refl _
                  | succ k ih2 =>
                    intro hk
                    have q := ih2 (by omega)
                    show _ ≤ ct_n (md_P T K F G A L R C hs H S) (w + 1 + k) + ct_b (md_P T K F G A L R C hs H S (w + 1 + k))
                    omega
                have q := this (i - (w + 1)) (by omega)
                rw [show w + 1 + (i - (w + 1)) = i by omega] at q
                exact q
              have m2 : ct_n (md_P T K F G A L R C hs H S) (w + 1) = ct_n (md_P T K F G A L R C hs H S) w + 1 := by
                show ct_n (md_P T K F G A L R C hs H S) w + ct_b (md_P T K F G A L R C hs H S w) = _
                rw [ct_b1 hm]
              omega
            rw [pk_un (by omega)]; exact h w (by omega) hm)
        rw [e] at ih
        exact br_f (by decide) (nm_r (nI_1 _) (And.intro (vp_in_nI (by omega) (by decide)) (nm_r (xe_u (by omega) rfl) (nm_r (nI_1 _) ih))))
    · rw [xe_r (a := a_possible) (by omega) p2]
      exact br_t rfl (nm_r (nI_1 _) (skip (fun z => p1 ((md_iff hc hS).mp z).2.1)))
theorem yl_learn {post : SY → Prop} (hw : en_W T K F G) (hD : en_D T K F G a_kind a_first a_second) (hA : aw_W T A L R) (hB : aw_D A L R a_left a_right) (hc : cw_W A C hs) (hy : cw_Y C hs a_literals) (hS : sw_W A H S) (hSD : sw_D H S a_stack) (hcl : f_closed = 0 ∨ (f_closed = 1 ∧ ci_P T K F G A L R (2 ^ A) a_possible a_classOf)) (hkn : f_known = 0 ∨ (f_known = 1 ∧ ml_P (md_P T K F G A L R C hs H S) (2 ^ A) f_models a_model)) (kk : ∀ (o po co mo : Nat → Int32) (ms : Int32), ci_P T K F G A L R (2 ^ A) po co → ml_P (md_P T K F G A L R C hs H S) (2 ^ A) ms mo → post (nI T, nI A, nI C, nI H, ms, 1, 1, a_kind, a_first, a_second, a_left, a_right, a_literals, a_stack, o, po, mo, co)) : wpY_learn post (nI T, nI A, nI C, nI H, f_models, f_known, f_closed, a_kind, a_first, a_second, a_left, a_right, a_literals, a_stack, a_of, a_possible, a_model, a_classOf) := by
  unfold wpY_learn
  dsimp only
  refine yl_closeAll hw hD hA hB hcl (fun o po co hci => ?_)
  rcases hkn with rfl | ⟨rfl, h⟩
  · exact br_t rfl ⟨2 ^ A + 1, yl_24 hw hD hA hB hc hy hS hSD hci (fun ms mo hml => kk o po co mo ms hci hml) (2 ^ A) 0 (2 ^ A + 1) a_model (by omega) (by omega) (fun w hww => absurd hww (Nat.not_lt_zero w))⟩
  · exact br_f (show ¬ (1 : Int32) = 0 from by decide) (kk o po co a_model f_models hci h)
end
end
section
/-! the relation -/
def rl_D (T : Nat) (K F G : Nat → Nat) (A : Nat) (L R : Nat → Nat) (C : Nat) (hs : Nat → Nat → Prop) (H : Nat) (S : Nat → Nat) : Prop := en_W T K F G ∧ aw_W T A L R ∧ cw_W A C hs ∧ sw_W A H S
def rl_X (T : Nat) (K F G : Nat → Nat) (A : Nat) (L R : Nat → Nat) (C : Nat) (hs : Nat → Nat → Prop) (H : Nat) (S : Nat → Nat) (u : SX) : Prop := match u with
  | (f_terms, f_atoms, f_clauses, f_depth, f_trail, f_pending, f_known, f_count, f_always, f_ever, f_fewest, f_most, f_askA, f_askB, f_together, a_kind, a_first, a_second, a_left, a_right, a_yes, a_no, a_stack, a_state, a_trailAt, a_trailOld, a_pendingA, a_pendingB, a_found, a_says, a_mark) => f_terms = nI T ∧ f_atoms = nI A ∧ f_clauses = nI C ∧ f_depth = nI H ∧ (en_D T K F G a_kind a_first a_second ∧ aw_D A L R a_left a_right ∧ cw_X C hs a_yes a_no ∧ sw_D H S a_stack ∧ (f_known = 0 ∨ (f_known = 1 ∧ ∃ tg, ac_P (wy_n T K F G A L R) tg (md_P T K F G A L R C hs H S) f_count f_always f_ever f_fewest f_most f_together a_found)))
def rl_Y (T : Nat) (K F G : Nat → Nat) (A : Nat) (L R : Nat → Nat) (C : Nat) (hs : Nat → Nat → Prop) (H : Nat) (S : Nat → Nat) (v : SY) : Prop := match v with
  | (f_terms, f_atoms, f_clauses, f_height, f_models, g_known, f_closed, b_kind, b_first, b_second, b_left, b_right, a_literals, b_stack, a_of, a_possible, a_model, a_classOf) => f_terms = nI T ∧ f_atoms = nI A ∧ f_clauses = nI C ∧ f_height = nI H ∧ (en_D T K F G b_kind b_first b_second ∧ aw_D A L R b_left b_right ∧ cw_Y C hs a_literals ∧ sw_D H S b_stack ∧ (f_closed = 0 ∨ (f_closed = 1 ∧ ci_P T K F G A L R (2 ^ A) a_possible a_classOf)) ∧ (g_known = 0 ∨ (g_known = 1 ∧ ml_P (md_P T K F G A L R C hs H S) (2 ^ A) f_models a_model)))
def i_Rel (k : Nat) (u : SX) (v : SY) : Prop := ∃ (T : Nat) (K F G : Nat → Nat) (A : Nat) (L R : Nat → Nat) (C : Nat) (hs : Nat → Nat → Prop) (H : Nat) (S : Nat → Nat), rl_D T K F G A L R C hs H S ∧ rl_X T K F G A L R C hs H S u ∧ rl_Y T K F G A L R C hs H S v
theorem i_up {k : Nat} {u : SX} {v : SY} (h : i_Rel k u v) : i_Rel (k + 4) u v := h
theorem rl_xe {T : Nat} {K F G : Nat → Nat} {A : Nat} {L R : Nat → Nat} {C : Nat} {hs : Nat → Nat → Prop} {H : Nat} {S : Nat → Nat} {P : SX → Prop} {u : SX} (hx : rl_X T K F G A L R C hs H S u) (h : ∀ (f_trail f_pending f_known f_count f_always f_ever f_fewest f_most f_askA f_askB f_together : Int32) (a_kind a_first a_second a_left a_right a_yes a_no a_stack a_state a_trailAt a_trailOld a_pendingA a_pendingB : Nat → Int32) (a_found : Nat → Int64) (a_says a_mark : Nat → Int32), (en_D T K F G a_kind a_first a_second ∧ aw_D A L R a_left a_right ∧ cw_X C hs a_yes a_no ∧ sw_D H S a_stack ∧ (f_known = 0 ∨ (f_known = 1 ∧ ∃ tg, ac_P (wy_n T K F G A L R) tg (md_P T K F G A L R C hs H S) f_count f_always f_ever f_fewest f_most f_together a_found))) → P (nI T, nI A, nI C, nI H, f_trail, f_pending, f_known, f_count, f_always, f_ever, f_fewest, f_most, f_askA, f_askB, f_together, a_kind, a_first, a_second, a_left, a_right, a_yes, a_no, a_stack, a_state, a_trailAt, a_trailOld, a_pendingA, a_pendingB, a_found, a_says, a_mark)) : P u := by
  obtain ⟨f_terms, f_atoms, f_clauses, f_depth, f_trail, f_pending, f_known, f_count, f_always, f_ever, f_fewest, f_most, f_askA, f_askB, f_together, a_kind, a_first, a_second, a_left, a_right, a_yes, a_no, a_stack, a_state, a_trailAt, a_trailOld, a_pendingA, a_pendingB, a_found, a_says, a_mark⟩ := u
  obtain ⟨e1, e2, e3, e4, hf⟩ := hx
  subst e1; subst e2; subst e3; subst e4
  exact h _ _ _ _ _ _ _ _ _ _ _ _ _ _ _ _ _ _ _ _ _ _ _ _ _ _ _ hf
theorem rl_ye {T : Nat} {K F G : Nat → Nat} {A : Nat} {L R : Nat → Nat} {C : Nat} {hs : Nat → Nat → Prop} {H : Nat} {S : Nat → Nat} {P : SY → Prop} {v : SY} (hx : rl_Y T K F G A L R C hs H S v) (h : ∀ (f_models g_known f_closed : Int32) (b_kind b_first b_second b_left b_right a_literals b_stack a_of a_possible a_model a_classOf : Nat → Int32), (en_D T K F G b_kind b_first b_second ∧ aw_D A L R b_left b_right ∧ cw_Y C hs a_literals ∧ sw_D H S b_stack ∧ (f_closed = 0 ∨ (f_closed = 1 ∧ ci_P T K F G A L R (2 ^ A) a_possible a_classOf)) ∧ (g_known = 0 ∨ (g_known = 1 ∧ ml_P (md_P T K F G A L R C hs H S) (2 ^ A) f_models a_model))) → P (nI T, nI A, nI C, nI H, f_models, g_known, f_closed, b_kind, b_first, b_second, b_left, b_right, a_literals, b_stack, a_of, a_possible, a_model, a_classOf)) : P v := by
  obtain ⟨f_terms, f_atoms, f_clauses, f_height, f_models, g_known, f_closed, b_kind, b_first, b_second, b_left, b_right, a_literals, b_stack, a_of, a_possible, a_model, a_classOf⟩ := v
  obtain ⟨e1, e2, e3, e4, hf⟩ := hx
  subst e1; subst e2; subst e3; subst e4
  exact h _ _ _ _ _ _ _ _ _ _ _ _ _ _ hf
section
variable {f_terms f_atoms f_clauses f_depth f_trail f_pending f_known f_count f_always f_ever f_fewest f_most f_askA f_askB f_together : Int32} {a_kind a_first a_second a_left a_right a_yes a_no a_stack a_state a_trailAt a_trailOld a_pendingA a_pendingB a_says a_mark : Nat → Int32} {a_found : Nat → Int64}
variable {f_models g_known f_closed : Int32} {b_kind b_first b_second b_left b_right a_literals b_stack a_of a_possible a_model a_classOf : Nat → Int32}
variable {T : Nat} {K F G : Nat → Nat} {A : Nat} {L R : Nat → Nat} {C : Nat} {hs : Nat → Nat → Prop} {H : Nat} {S : Nat → Nat}
theorem rl_mk {k : Nat} (hd : rl_D T K F G A L R C hs H S) (hx : (en_D T K F G a_kind a_first a_second ∧ aw_D A L R a_left a_right ∧ cw_X C hs a_yes a_no ∧ sw_D H S a_stack ∧ (f_known = 0 ∨ (f_known = 1 ∧ ∃ tg, ac_P (wy_n T K F G A L R) tg (md_P T K F G A L R C hs H S) f_count f_always f_ever f_fewest f_most f_together a_found)))) (hy : (en_D T K F G b_kind b_first b_second ∧ aw_D A L R b_left b_right ∧ cw_Y C hs a_literals ∧ sw_D H S b_stack ∧ (f_closed = 0 ∨ (f_closed = 1 ∧ ci_P T K F G A L R (2 ^ A) a_possible a_classOf)) ∧ (g_known = 0 ∨ (g_known = 1 ∧ ml_P (md_P T K F G A L R C hs H S) (2 ^ A) f_models a_model)))) : i_Rel k (nI T, nI A, nI C, nI H, f_trail, f_pending, f_known, f_count, f_always, f_ever, f_fewest, f_most, f_askA, f_askB, f_together, a_kind, a_first, a_second, a_left, a_right, a_yes, a_no, a_stack, a_state, a_trailAt, a_trailOld, a_pendingA, a_pendingB, a_found, a_says, a_mark) (nI T, nI A, nI C, nI H, f_models, g_known, f_closed, b_kind, b_first, b_second, b_left, b_right, a_literals, b_stack, a_of, a_possible, a_model, a_classOf) :=
  ⟨T, K, F, G, A, L, R, C, hs, H, S, hd, ⟨rfl, rfl, rfl, rfl, hx⟩, ⟨rfl, rfl, rfl, rfl, hy⟩⟩
/-! within, outside -/
theorem xo_in {post : Int32 → Prop} {j N : Nat} (hj : j < N) (hN : N < 2 ^ 31) (kk : post 0) : wpX_outside post (nI j) (nI N) :=
  br_t (nI_pos' (by omega)) (br_t (nI_lt hj hN) ⟨rfl, kk⟩)
theorem xo_bad {post : Int32 → Prop} {p : Int32} {N : Nat} (h : p < 0 ∨ nI N ≤ p) (hN : N < 2 ^ 31) (kk : post 1) : wpX_outside post p (nI N) := by
  have n0 : ¬ nI N < 0 := nI_pos hN
  by_cases z : p < 0
  · refine br_f (Int32.not_le.mpr z) (br_t ?_ ⟨rfl, kk⟩)
    exact Int32.lt_of_lt_of_le z (Int32.not_lt.mp n0)
  · have h2 := h.resolve_left z
    exact br_t (Int32.not_lt.mp z) (br_f (Int32.not_lt.mpr h2) ⟨rfl, kk⟩)
theorem yo_in {post : Int32 → Prop} {j N : Nat} (hj : j < N) (hN : N < 2 ^ 31) (kk : post 1) : wpY_within post (nI j) (nI N) :=
  br_f (nI_pos (by omega)) (br_f (nI_ge hj hN) kk)
theorem yo_bad {post : Int32 → Prop} {p : Int32} {N : Nat} (h : p < 0 ∨ nI N ≤ p) (kk : post 0) : wpY_within post p (nI N) := by
  by_cases z : p < 0
  · exact br_t z kk
  · exact br_f z (br_t (h.resolve_left z) kk)
theorem ix_c (p : Int32) {N : Nat} (hN : N < 2 ^ 31) : (p < 0 ∨ nI N ≤ p) ∨ ∃ j, j < N ∧ p = nI j := by
  rcases pk_ix p hN with h | h | h
  · exact Or.inl (Or.inl h)
  · exact Or.inl (Or.inr h)
  · exact Or.inr h
theorem xo_lit {post : Int32 → Prop} {A : Nat} (hA : A ≤ 8) {p : Int32} (k1 : ∀ j, j < 2 * A → p = nI j → post 1) (k0 : (p < 0 ∨ nI (2 * A) ≤ p) → post 0) : wpX_isLiteral post (f_terms, nI A, f_clauses, f_depth, f_trail, f_pending, f_known, f_count, f_always, f_ever, f_fewest, f_most, f_askA, f_askB, f_together, a_kind, a_first, a_second, a_left, a_right, a_yes, a_no, a_stack, a_state, a_trailAt, a_trailOld, a_pendingA, a_pendingB, a_found, a_says, a_mark) p := by
  have e : (2 : Int32) * nI A = nI (2 * A) := pk_mul 2 A
  unfold wpX_isLiteral
  dsimp only
  rw [e]
  rcases ix_c p (N := 2 * A) (by omega) with h | ⟨j, h1, rfl⟩
  · exact xo_bad h (by omega) (br_f (by decide) (k0 h))
  · exact xo_in h1 (by omega) (br_t rfl (k1 j h1 rfl))
theorem yo_lit {post : Int32 → Prop} {A : Nat} (hA : A ≤ 8) {p : Int32} {f_terms f_clauses f_height f_known : Int32} {a_kind a_first a_second a_left a_right a_stack : Nat → Int32} (k1 : ∀ j, j < 2 * A → p = nI j → post 1) (k0 : (p < 0 ∨ nI (2 * A) ≤ p) → post 0) : wpY_isLiteral post (f_terms, nI A, f_clauses, f_height, f_models, f_known, f_closed, a_kind, a_first, a_second, a_left, a_right, a_literals, a_stack, a_of, a_possible, a_model, a_classOf) p := by
  have e : (2 : Int32) * nI A = nI (2 * A) := pk_mul 2 A
  unfold wpY_isLiteral
  dsimp only
  rw [e]
  rcases ix_c p (N := 2 * A) (by omega) with h | ⟨j, h1, rfl⟩
  · exact yo_bad h ⟨rfl, k0 h⟩
  · exact yo_in h1 (by omega) ⟨rfl, k1 j h1 rfl⟩
end
/-! the constructors, and data with one thing more -/
theorem i_vc0 : wpX_init (fun u => wpY_init (fun v => i_Rel 0 u v)) :=
  ⟨0, fun _ => 0, fun _ => 0, fun _ => 0, 0, fun _ => 0, fun _ => 0, 0, fun _ _ => False, 0, fun _ => 0, ⟨⟨Nat.zero_le _, fun u hu => absurd hu (Nat.not_lt_zero u)⟩, ⟨Nat.zero_le _, fun u hu => absurd hu (Nat.not_lt_zero u)⟩, ⟨Nat.zero_le _, fun u hu => absurd hu (Nat.not_lt_zero u)⟩, ⟨Nat.zero_le _, fun u hu => absurd hu (Nat.not_lt_zero u)⟩⟩,
    ⟨rfl, rfl, rfl, rfl, fun u hu => absurd hu (Nat.not_lt_zero u), fun u hu => absurd hu (Nat.not_lt_zero u), fun u hu => absurd hu (Nat.not_lt_zero u), fun u hu => absurd hu (Nat.not_lt_zero u), Or.inl rfl⟩,
    ⟨rfl, rfl, rfl, rfl, fun u hu => absurd hu (Nat.not_lt_zero u), fun u hu => absurd hu (Nat.not_lt_zero u), fun u hu => absurd hu (Nat.not_lt_zero u), fun u hu => absurd hu (Nat.not_lt_zero u), Or.inl rfl, Or.inl rfl⟩⟩
def un_u (f : Nat → Nat) (k v : Nat) : Nat → Nat := fun t => if t = k then v else f t
theorem un_s {f : Nat → Nat} {k v : Nat} : un_u f k v k = v := if_pos rfl
theorem un_n {f : Nat → Nat} {k v t : Nat} (h : t ≠ k) : un_u f k v t = f t := if_neg h
section
variable {f_terms f_atoms f_clauses f_depth f_trail f_pending f_known f_count f_always f_ever f_fewest f_most f_askA f_askB f_together : Int32} {a_kind a_first a_second a_left a_right a_yes a_no a_stack a_state a_trailAt a_trailOld a_pendingA a_pendingB a_says a_mark : Nat → Int32} {a_found : Nat → Int64}
variable {f_models g_known f_closed : Int32} {b_kind b_first b_second b_left b_right a_literals b_stack a_of a_possible a_model a_classOf : Nat → Int32}
variable {T : Nat} {K F G : Nat → Nat} {A : Nat} {L R : Nat → Nat} {C : Nat} {hs : Nat → Nat → Prop} {H : Nat} {S : Nat → Nat}
theorem mt_term (hT : T < 16) {κ α β : Nat} (hk : κ < 4) (ha : κ ≠ 0 → α < T) (hb : κ = 2 → β < T) (hd : rl_D T K F G A L R C hs H S) : rl_D (T + 1) (un_u K T κ) (un_u F T α) (un_u G T β) A L R C hs H S := by
  obtain ⟨⟨_, w⟩, ⟨a1, a2⟩, c, s⟩ := hd
  refine ⟨⟨by omega, fun u hu => ?_⟩, ⟨a1, fun a h => ⟨by have := (a2 a h).1; omega, by have := (a2 a h).2; omega⟩⟩, c, s⟩
  by_cases z : u = T
  · subst z; rw [un_s, un_s, un_s]; exact ⟨hk, ha, hb⟩
  · rw [un_n z, un_n z, un_n z]; exact w u (by omega)
theorem mt_termD {ak af as : Nat → Int32} {κ α β : Nat} (h : en_D T K F G ak af as) {x y : Int32} (hx : κ ≠ 0 → x = nI α) (hy : κ = 2 → y = nI β) : en_D (T + 1) (un_u K T κ) (un_u F T α) (un_u G T β) (upd ak T (nI κ)) (upd af T x) (upd as T y) := by
  intro t ht
  by_cases z : t = T
  · subst z; rw [un_s, un_s, un_s, pk_us, pk_us, pk_us]; exact ⟨rfl, hx, hy⟩
  · rw [un_n z, un_n z, un_n z, pk_un z, pk_un z, pk_un z]; exact h t (by omega)
theorem xt_64 {post : Int32 → SX → Prop} (hT : T < 16) {κ α β : Nat} {x2 x3 : Int32} (hk : κ < 4) (ha : κ ≠ 0 → α < T ∧ x2 = nI α) (hb : κ = 2 → β < T ∧ x3 = nI β) (kk : ∀ x y : Int32, (κ ≠ 0 → x = nI α) → (κ = 2 → y = nI β) → post (nI T) (nI (T + 1), f_atoms, f_clauses, f_depth, f_trail, f_pending, 0, f_count, f_always, f_ever, f_fewest, f_most, f_askA, f_askB, f_together, upd a_kind T (nI κ), upd a_first T x, upd a_second T y, a_left, a_right, a_yes, a_no, a_stack, a_state, a_trailAt, a_trailOld, a_pendingA, a_pendingB, a_found, a_says, a_mark)) : wX_term_64 post (nI κ) x2 x3 (nI T) f_atoms f_clauses f_depth f_trail f_pending f_known f_count f_always f_ever f_fewest f_most f_askA f_askB f_together a_kind a_first a_second a_left a_right a_yes a_no a_stack a_state a_trailAt a_trailOld a_pendingA a_pendingB a_found a_says a_mark := by
  have ti : vp_in (nI T) 16 := vp_in_nI hT (by decide)
  have s112 : ∀ (x y z : Int32), (κ ≠ 0 → x = nI α) → vp_nar .byte z.toInt8.toInt32 = y → (κ = 2 → y = nI β) → wX_term_112 post z (nI T) (nI T) f_atoms f_clauses f_depth f_trail f_pending f_known f_count f_always f_ever f_fewest f_most f_askA f_askB f_together (upd a_kind T (nI κ)) (upd a_first T x) a_second a_left a_right a_yes a_no a_stack a_state a_trailAt a_trailOld a_pendingA a_pendingB a_found a_says a_mark := fun x y z h1 h2 h3 =>
    And.intro ti (nm_r (xe_u (by omega) h2) (nm_r (nI_1 _) (kk x y h1 h3)))
  have s92 : ∀ (z x : Int32), vp_nar .byte z.toInt8.toInt32 = x → (κ ≠ 0 → x = nI α) → wX_term_92 post (nI κ) x3 z (nI T) (nI T) f_atoms f_clauses f_depth f_trail f_pending f_known f_count f_always f_ever f_fewest f_most f_askA f_askB f_together (upd a_kind T (nI κ)) a_first a_second a_left a_right a_yes a_no a_stack a_state a_trailAt a_trailOld a_pendingA a_pendingB a_found a_says a_mark := fun z x h1 h2 =>
    And.intro ti (nm_r (xe_u (by omega) h1) (pk_eq κ 2 (fun y => by
      obtain ⟨b1, rfl⟩ := hb y
      exact s112 x (nI β) (nI β) h2 (xe_b2 β (by omega)) (fun _ => rfl)) (fun y => s112 x _ 0 h2 rfl (fun w => absurd w y)) rfl rfl (by omega) (by omega)))
  refine And.intro ti (nm_r (xe_u (by omega) (xe_b2 κ (by omega))) (pk_eq κ 0 (fun y => ?_) (fun y => ?_) rfl rfl (by omega) (by omega)))
  · exact s92 0 _ rfl (fun w => absurd y w)
  · obtain ⟨a1, rfl⟩ := ha y
    exact s92 (nI α) (nI α) (xe_b2 α (by omega)) (fun _ => rfl)
end
end
section
/-! the methods that change what there is -/
section
variable {f_terms f_atoms f_clauses f_depth f_trail f_pending f_known f_count f_always f_ever f_fewest f_most f_askA f_askB f_together : Int32} {a_kind a_first a_second a_left a_right a_yes a_no a_stack a_state a_trailAt a_trailOld a_pendingA a_pendingB a_says a_mark : Nat → Int32} {a_found : Nat → Int64}
variable {f_models g_known f_closed : Int32} {b_kind b_first b_second b_left b_right a_literals b_stack a_of a_possible a_model a_classOf : Nat → Int32}
variable {T : Nat} {K F G : Nat → Nat} {A : Nat} {L R : Nat → Nat} {C : Nat} {hs : Nat → Nat → Prop} {H : Nat} {S : Nat → Nat}
theorem xt_39 {post : Int32 → SX → Prop} (hT : T < 16) {κ α β : Nat} {x2 x3 : Int32} (hk : κ < 4) (ha : κ ≠ 0 → α < T ∧ x2 = nI α) (hb : κ = 2 → β < T ∧ x3 = nI β) (kk : ∀ x y : Int32, (κ ≠ 0 → x = nI α) → (κ = 2 → y = nI β) → post (nI T) (nI (T + 1), f_atoms, f_clauses, f_depth, f_trail, f_pending, 0, f_count, f_always, f_ever, f_fewest, f_most, f_askA, f_askB, f_together, upd a_kind T (nI κ), upd a_first T x, upd a_second T y, a_left, a_right, a_yes, a_no, a_stack, a_state, a_trailAt, a_trailOld, a_pendingA, a_pendingB, a_found, a_says, a_mark)) : wX_term_39 post (nI κ) x2 x3 1 (nI T) f_atoms f_clauses f_depth f_trail f_pending f_known f_count f_always f_ever f_fewest f_most f_askA f_askB f_together a_kind a_first a_second a_left a_right a_yes a_no a_stack a_state a_trailAt a_trailOld a_pendingA a_pendingB a_found a_says a_mark := by
  have k64 : wX_term_64 post (nI κ) x2 x3 (nI T) f_atoms f_clauses f_depth f_trail f_pending f_known f_count f_always f_ever f_fewest f_most f_askA f_askB f_together a_kind a_first a_second a_left a_right a_yes a_no a_stack a_state a_trailAt a_trailOld a_pendingA a_pendingB a_found a_says a_mark := xt_64 hT hk ha hb kk
  refine br_f (by decide) (pk_eq κ 2 (fun y => ?_) (fun y => k64) rfl rfl (by omega) (by omega))
  obtain ⟨b1, rfl⟩ := hb y
  exact xo_in b1 (by omega) (br_t rfl k64)
theorem yt_50 {f_clauses f_height f_known : Int32} {a_kind a_first a_second a_left a_right a_stack : Nat → Int32} {post : Int32 → SY → Prop} (hT : T < 16) {κ α β : Nat} {x2 x3 : Int32} (hk : κ < 4) (ha : κ ≠ 0 → α < T ∧ x2 = nI α) (hb : κ = 2 → β < T ∧ x3 = nI β) (kk : ∀ x y : Int32, (κ ≠ 0 → x = nI α) → (κ = 2 → y = nI β) → post (nI T) (nI (T + 1), f_atoms, f_clauses, f_height, f_models, 0, 0, upd a_kind T (nI κ), upd a_first T x, upd a_second T y, a_left, a_right, a_literals, a_stack, a_of, a_possible, a_model, a_classOf)) : wY_term_50 post (nI κ) x2 x3 (nI T) f_atoms f_clauses f_height f_models f_known f_closed a_kind a_first a_second a_left a_right a_literals a_stack a_of a_possible a_model a_classOf := by
  have ti : vp_in (nI T) 16 := vp_in_nI hT (by decide)
  have s96 : ∀ (x y : Int32), (κ ≠ 0 → x = nI α) → (κ = 2 → y = nI β) → wY_term_96 post y (nI T) (nI T) f_atoms f_clauses f_height f_models f_known f_closed (upd a_kind T (nI κ)) (upd a_first T x) a_second a_left a_right a_literals a_stack a_of a_possible a_model a_classOf := fun x y h1 h3 =>
    And.intro ti (nm_r (xe_u (by omega) rfl) (nm_r (nI_1 _) (kk x y h1 h3)))
  have s77 : ∀ (x : Int32), (κ ≠ 0 → x = nI α) → wY_term_77 post (nI κ) x3 x (nI T) (nI T) f_atoms f_clauses f_height f_models f_known f_closed (upd a_kind T (nI κ)) a_first a_second a_left a_right a_literals a_stack a_of a_possible a_model a_classOf := fun x h2 =>
    And.intro ti (nm_r (xe_u (by omega) rfl) (pk_eq κ 2 (fun y => s96 x x3 h2 (fun _ => (hb y).2)) (fun y => s96 x _ h2 (fun w => absurd w y)) rfl rfl (by omega) (by omega)))
  exact And.intro ti (nm_r (xe_u (by omega) rfl) (pk_eq κ 0 (fun y => s77 _ (fun w => absurd y w)) (fun y => s77 x2 (fun _ => (ha y).2)) rfl rfl (by omega) (by omega)))
theorem yt_32 {f_clauses f_height f_known : Int32} {a_kind a_first a_second a_left a_right a_stack : Nat → Int32} {post : Int32 → SY → Prop} (hT : T < 16) {κ α β : Nat} {x2 x3 : Int32} (hk : κ < 4) (ha : κ ≠ 0 → α < T ∧ x2 = nI α) (hb : κ = 2 → β < T ∧ x3 = nI β) (kk : ∀ x y : Int32, (κ ≠ 0 → x = nI α) → (κ = 2 → y = nI β) → post (nI T) (nI (T + 1), f_atoms, f_clauses, f_height, f_models, 0, 0, upd a_kind T (nI κ), upd a_first T x, upd a_second T y, a_left, a_right, a_literals, a_stack, a_of, a_possible, a_model, a_classOf)) : wY_term_32 post (nI κ) x2 x3 (nI T) f_atoms f_clauses f_height f_models f_known f_closed a_kind a_first a_second a_left a_right a_literals a_stack a_of a_possible a_model a_classOf := by
  have k50 : wY_term_50 post (nI κ) x2 x3 (nI T) f_atoms f_clauses f_height f_models f_known f_closed a_kind a_first a_second a_left a_right a_literals a_stack a_of a_possible a_model a_classOf := yt_50 hT hk ha hb kk
  refine pk_eq κ 2 (fun y => ?_) (fun y => k50) rfl rfl (by omega) (by omega)
  obtain ⟨b1, rfl⟩ := hb y
  exact yo_in b1 (by omega) (br_f (by decide) k50)
theorem zz_term {k : Nat} (hd : rl_D T K F G A L R C hs H S) (hx : (en_D T K F G a_kind a_first a_second ∧ aw_D A L R a_left a_right ∧ cw_X C hs a_yes a_no ∧ sw_D H S a_stack ∧ (f_known = 0 ∨ (f_known = 1 ∧ ∃ tg, ac_P (wy_n T K F G A L R) tg (md_P T K F G A L R C hs H S) f_count f_always f_ever f_fewest f_most f_together a_found)))) (hy : (en_D T K F G b_kind b_first b_second ∧ aw_D A L R b_left b_right ∧ cw_Y C hs a_literals ∧ sw_D H S b_stack ∧ (f_closed = 0 ∨ (f_closed = 1 ∧ ci_P T K F G A L R (2 ^ A) a_possible a_classOf)) ∧ (g_known = 0 ∨ (g_known = 1 ∧ ml_P (md_P T K F G A L R C hs H S) (2 ^ A) f_models a_model)))) (v1 : Int32) (v2 : Int32) (v3 : Int32) : wpX_term (fun r u' => wpY_term (fun r' v' => r' = r ∧ i_Rel (k + 4) u' v') (nI T, nI A, nI C, nI H, f_models, g_known, f_closed, b_kind, b_first, b_second, b_left, b_right, a_literals, b_stack, a_of, a_possible, a_model, a_classOf) v1 v2 v3) (nI T, nI A, nI C, nI H, f_trail, f_pending, f_known, f_count, f_always, f_ever, f_fewest, f_most, f_askA, f_askB, f_together, a_kind, a_first, a_second, a_left, a_right, a_yes, a_no, a_stack, a_state, a_trailAt, a_trailOld, a_pendingA, a_pendingB, a_found, a_says, a_mark) v1 v2 v3 := by
  have hT := hd.1.1
  have same : ∀ r : Int32, r = r ∧ i_Rel (k + 4) (nI T, nI A, nI C, nI H, f_trail, f_pending, f_known, f_count, f_always, f_ever, f_fewest, f_most, f_askA, f_askB, f_together, a_kind, a_first, a_second, a_left, a_right, a_yes, a_no, a_stack, a_state, a_trailAt, a_trailOld, a_pendingA, a_pendingB, a_found, a_says, a_mark) (nI T, nI A, nI C, nI H, f_models, g_known, f_closed, b_kind, b_first, b_second, b_left, b_right, a_literals, b_stack, a_of, a_possible, a_model, a_classOf) := fun r => ⟨rfl, rl_mk hd hx hy⟩
  by_cases z : T = 16
  · have e : nI T = 16 := by rw [z]; rfl
    exact br_t e (br_t e (same _))
  have e : ¬ nI T = 16 := fun h => z ((nI_eq (a := T) (b := 16) (by omega) (by omega)).mp h)
  have hT' : T < 16 := by omega
  rcases ix_c v1 (N := 4) (by omega) with h1 | ⟨κ, k4, rfl⟩
  · exact br_f e (xo_bad (N := 4) h1 (by omega) (br_f (by decide) (br_f e (yo_bad (N := 4) h1 (br_t rfl (same _))))))
  have fin : ∀ (α β : Nat), (κ ≠ 0 → α < T ∧ v2 = nI α) → (κ = 2 → β < T ∧ v3 = nI β) → wX_term_34 (fun r u' => wpY_term (fun r' v' => r' = r ∧ i_Rel (k + 4) u' v') (nI T, nI A, nI C, nI H, f_models, g_known, f_closed, b_kind, b_first, b_second, b_left, b_right, a_literals, b_stack, a_of, a_possible, a_model, a_classOf) (nI κ) v2 v3) (nI κ) v2 v3 (nI T) (nI A) (nI C) (nI H) f_trail f_pending f_known f_count f_always f_ever f_fewest f_most f_askA f_askB f_together a_kind a_first a_second a_left a_right a_yes a_no a_stack a_state a_trailAt a_trailOld a_pendingA a_pendingB a_found a_says a_mark := fun α β ha hb => by
    refine xt_39 hT' k4 ha hb (fun x y e1 e2 => ?_)
    have k32 := yt_32 (post := fun r' v' => r' = nI T ∧ i_Rel (k + 4) (nI (T + 1), nI A, nI C, nI H, f_trail, f_pending, 0, f_count, f_always, f_ever, f_fewest, f_most, f_askA, f_askB, f_together, upd a_kind T (nI κ), upd a_first T x, upd a_second T y, a_left, a_right, a_yes, a_no, a_stack, a_state, a_trailAt, a_trailOld, a_pendingA, a_pendingB, a_found, a_says, a_mark) v') (f_atoms := nI A) (f_clauses := nI C) (f_height := nI H) (f_models := f_models) (f_known := g_known) (f_closed := f_closed) (a_kind := b_kind) (a_first := b_first) (a_second := b_second) (a_left := b_left) (a_right := b_right) (a_literals := a_literals) (a_stack := b_stack) (a_of := a_of) (a_possible := a_possible) (a_model := a_model) (a_classOf := a_classOf) hT' k4 ha hb (fun x' y' e1' e2' => ⟨rfl, rl_mk (mt_term hT' k4 (fun w => (ha w).1) (fun w => (hb w).1) hd) ⟨mt_termD hx.1 e1 e2, hx.2.1, hx.2.2.1, hx.2.2.2.1, Or.inl rfl⟩ ⟨mt_termD hy.1 e1' e2', hy.2.1, hy.2.2.1, hy.2.2.2.1, Or.inl rfl, Or.inl rfl⟩⟩)
    refine br_f e (yo_in (N := 4) k4 (by omega) (br_f (by decide) (pk_eq κ 0 (fun w => k32) (fun w => ?_) rfl rfl (by omega) (by omega))))
    obtain ⟨a1, a2⟩ := ha w
    rw [a2] at k32 ⊢
    exact yo_in a1 (by omega) (br_f (by decide) k32)
  refine br_f e (xo_in (N := 4) k4 (by omega) (br_t rfl (pk_eq κ 0 (fun w => ?_) (fun w => ?_) rfl rfl (by omega) (by omega))))
  · exact fin 0 0 (fun y => absurd w y) (fun y => by omega)
  · rcases ix_c v2 (N := T) (by omega) with h2 | ⟨α, a1, rfl⟩
    · refine xo_bad h2 (by omega) (br_f (by decide) (br_t rfl (br_f e (yo_in (N := 4) k4 (by omega) (br_f (by decide) (pk_eq κ 0 (fun y => absurd y w) (fun _ => ?_) rfl rfl (by omega) (by omega)))))))
      exact yo_bad h2 (br_t rfl (same _))
    · refine xo_in a1 (by omega) (br_t rfl ?_)
      by_cases y : κ = 2
      · rcases ix_c v3 (N := T) (by omega) with h3 | ⟨β, b1, rfl⟩
        · refine br_f (by decide) (pk_eq κ 2 (fun _ => ?_) (fun q => absurd y q) rfl rfl (by omega) (by omega))
          refine xo_bad h3 (by omega) (br_f (by decide) (br_f e (yo_in (N := 4) k4 (by omega) (br_f (by decide) (pk_eq κ 0 (fun y => absurd y w) (fun _ => ?_) rfl rfl (by omega) (by omega))))))
          refine yo_in a1 (by omega) (br_f (by decide) (pk_eq κ 2 (fun _ => ?_) (fun q => absurd y q) rfl rfl (by omega) (by omega)))
          exact yo_bad h3 (br_t rfl (same _))
        · exact fin α β (fun _ => ⟨a1, rfl⟩) (fun _ => ⟨b1, rfl⟩)
      · exact fin α 0 (fun _ => ⟨a1, rfl⟩) (fun q => absurd q y)
theorem zz_atom {k : Nat} (hd : rl_D T K F G A L R C hs H S) (hx : (en_D T K F G a_kind a_first a_second ∧ aw_D A L R a_left a_right ∧ cw_X C hs a_yes a_no ∧ sw_D H S a_stack ∧ (f_known = 0 ∨ (f_known = 1 ∧ ∃ tg, ac_P (wy_n T K F G A L R) tg (md_P T K F G A L R C hs H S) f_count f_always f_ever f_fewest f_most f_together a_found)))) (hy : (en_D T K F G b_kind b_first b_second ∧ aw_D A L R b_left b_right ∧ cw_Y C hs a_literals ∧ sw_D H S b_stack ∧ (f_closed = 0 ∨ (f_closed = 1 ∧ ci_P T K F G A L R (2 ^ A) a_possible a_classOf)) ∧ (g_known = 0 ∨ (g_known = 1 ∧ ml_P (md_P T K F G A L R C hs H S) (2 ^ A) f_models a_model)))) (v1 : Int32) (v2 : Int32) : wpX_atom (fun r u' => wpY_atom (fun r' v' => r' = r ∧ i_Rel (k + 4) u' v') (nI T, nI A, nI C, nI H, f_models, g_known, f_closed, b_kind, b_first, b_second, b_left, b_right, a_literals, b_stack, a_of, a_possible, a_model, a_classOf) v1 v2) (nI T, nI A, nI C, nI H, f_trail, f_pending, f_known, f_count, f_always, f_ever, f_fewest, f_most, f_askA, f_askB, f_together, a_kind, a_first, a_second, a_left, a_right, a_yes, a_no, a_stack, a_state, a_trailAt, a_trailOld, a_pendingA, a_pendingB, a_found, a_says, a_mark) v1 v2 := by
  have hT := hd.1.1
  have h8 := hd.2.1.1
  have same : ∀ r : Int32, r = r ∧ i_Rel (k + 4) (nI T, nI A, nI C, nI H, f_trail, f_pending, f_known, f_count, f_always, f_ever, f_fewest, f_most, f_askA, f_askB, f_together, a_kind, a_first, a_second, a_left, a_right, a_yes, a_no, a_stack, a_state, a_trailAt, a_trailOld, a_pendingA, a_pendingB, a_found, a_says, a_mark) (nI T, nI A, nI C, nI H, f_models, g_known, f_closed, b_kind, b_first, b_second, b_left, b_right, a_literals, b_stack, a_of, a_possible, a_model, a_classOf) := fun r => ⟨rfl, rl_mk hd hx hy⟩
  by_cases z : A = 8
  · have e : nI A = 8 := by rw [z]; rfl
    exact br_t e (br_t e (same _))
  have e : ¬ nI A = 8 := fun h => z ((nI_eq (a := A) (b := 8) (by omega) (by omega)).mp h)
  have ai : vp_in (nI A) 8 := vp_in_nI (by omega) (by decide)
  rcases ix_c v1 (N := T) (by omega) with h1 | ⟨t, t1, rfl⟩
  · exact br_f e (xo_bad h1 (by omega) (br_f (by decide) (br_f e (yo_bad h1 (br_t rfl (same _))))))
  rcases ix_c v2 (N := T) (by omega) with h2 | ⟨u, u1, rfl⟩
  · exact br_f e (xo_in t1 (by omega) (br_t rfl (xo_bad h2 (by omega) (br_f (by decide) (br_f e (yo_in t1 (by omega) (br_f (by decide) (yo_bad h2 (br_t rfl (same _))))))))))
  have dn : ∀ (al ar : Nat → Int32), aw_D A L R al ar → aw_D (A + 1) (un_u L A t) (un_u R A u) (upd al A (nI t)) (upd ar A (nI u)) := fun al ar h a ha => by
    by_cases y : a = A
    · subst y; rw [un_s, un_s, pk_us, pk_us]; exact ⟨rfl, rfl⟩
    · rw [un_n y, un_n y, pk_un y, pk_un y]; exact h a (by omega)
  have hd' : rl_D T K F G (A + 1) (un_u L A t) (un_u R A u) C hs H S := by
    obtain ⟨w, ⟨a1, a2⟩, ⟨c1, c2⟩, ⟨s1, s2⟩⟩ := hd
    refine ⟨w, ⟨by omega, fun a ha => ?_⟩, ⟨c1, fun i hi => ⟨fun q hq => by have := (c2 i hi).1 q hq; omega, (c2 i hi).2⟩⟩, ⟨s1, fun j hj => by have := s2 j hj; omega⟩⟩
    by_cases y : a = A
    · subst y; rw [un_s, un_s]; exact ⟨t1, u1⟩
    · rw [un_n y, un_n y]; exact a2 a (by omega)
  refine br_f e (xo_in t1 (by omega) (br_t rfl (xo_in u1 (by omega) (br_t rfl (And.intro ai (nm_r (xe_u (by omega) (xe_b2 t (by omega))) (And.intro ai (nm_r (xe_u (by omega) (xe_b2 u (by omega))) (nm_r (nI_1 _) ?_)))))))))
  refine br_f e (yo_in t1 (by omega) (br_f (by decide) (yo_in u1 (by omega) (br_f (by decide) (And.intro ai (nm_r (xe_u (by omega) rfl) (And.intro ai (nm_r (xe_u (by omega) rfl) (nm_r (nI_1 _) ?_)))))))))
  exact ⟨rfl, rl_mk hd' ⟨hx.1, dn _ _ hx.2.1, hx.2.2.1, hx.2.2.2.1, Or.inl rfl⟩ ⟨hy.1, dn _ _ hy.2.1, hy.2.2.1, hy.2.2.2.1, Or.inl rfl, Or.inl rfl⟩⟩
theorem zz_push {k : Nat} (hd : rl_D T K F G A L R C hs H S) (hx : (en_D T K F G a_kind a_first a_second ∧ aw_D A L R a_left a_right ∧ cw_X C hs a_yes a_no ∧ sw_D H S a_stack ∧ (f_known = 0 ∨ (f_known = 1 ∧ ∃ tg, ac_P (wy_n T K F G A L R) tg (md_P T K F G A L R C hs H S) f_count f_always f_ever f_fewest f_most f_together a_found)))) (hy : (en_D T K F G b_kind b_first b_second ∧ aw_D A L R b_left b_right ∧ cw_Y C hs a_literals ∧ sw_D H S b_stack ∧ (f_closed = 0 ∨ (f_closed = 1 ∧ ci_P T K F G A L R (2 ^ A) a_possible a_classOf)) ∧ (g_known = 0 ∨ (g_known = 1 ∧ ml_P (md_P T K F G A L R C hs H S) (2 ^ A) f_models a_model)))) (v1 : Int32) : wpX_push (fun r u' => wpY_push (fun r' v' => r' = r ∧ i_Rel (k + 4) u' v') (nI T, nI A, nI C, nI H, f_models, g_known, f_closed, b_kind, b_first, b_second, b_left, b_right, a_literals, b_stack, a_of, a_possible, a_model, a_classOf) v1) (nI T, nI A, nI C, nI H, f_trail, f_pending, f_known, f_count, f_always, f_ever, f_fewest, f_most, f_askA, f_askB, f_together, a_kind, a_first, a_second, a_left, a_right, a_yes, a_no, a_stack, a_state, a_trailAt, a_trailOld, a_pendingA, a_pendingB, a_found, a_says, a_mark) v1 := by
  have h8 := hd.2.1.1
  have hH := hd.2.2.2.1
  have same : ∀ r : Int32, r = r ∧ i_Rel (k + 4) (nI T, nI A, nI C, nI H, f_trail, f_pending, f_known, f_count, f_always, f_ever, f_fewest, f_most, f_askA, f_askB, f_together, a_kind, a_first, a_second, a_left, a_right, a_yes, a_no, a_stack, a_state, a_trailAt, a_trailOld, a_pendingA, a_pendingB, a_found, a_says, a_mark) (nI T, nI A, nI C, nI H, f_models, g_known, f_closed, b_kind, b_first, b_second, b_left, b_right, a_literals, b_stack, a_of, a_possible, a_model, a_classOf) := fun r => ⟨rfl, rl_mk hd hx hy⟩
  unfold wpX_push
  dsimp only
  refine xo_lit h8 (fun j hj ej => ?_) (fun h => ?_)
  · subst ej
    refine br_f (by decide) ?_
    by_cases z : H = 8
    · have e : nI H = 8 := by rw [z]; rfl
      exact br_t e (br_t e (same _))
    have e : ¬ nI H = 8 := fun h => z ((nI_eq (a := H) (b := 8) (by omega) (by omega)).mp h)
    have hi : vp_in (nI H) 8 := vp_in_nI (by omega) (by decide)
    have dn : ∀ (as : Nat → Int32), sw_D H S as → sw_D (H + 1) (un_u S H j) (upd as H (nI j)) := fun as h q hq => by
      by_cases y : q = H
      · subst y; rw [un_s, pk_us]
      · rw [un_n y, pk_un y]; exact h q (by omega)
    have hd' : rl_D T K F G A L R C hs (H + 1) (un_u S H j) := by
      obtain ⟨w, a, c, ⟨s1, s2⟩⟩ := hd
      refine ⟨w, a, c, ⟨by omega, fun q hq => ?_⟩⟩
      by_cases y : q = H
      · subst y; rw [un_s]; exact hj
      · rw [un_n y]; exact s2 q (by omega)
    refine br_f e (nm_r (nI_1 _) (And.intro hi (nm_r (xe_u (by omega) (xe_b2 j (by omega))) ?_)))
    refine br_f e (yo_lit h8 (fun i hi' ei => ?_) (fun h => ?_))
    · refine br_f (by decide) (nm_r (nI_1 _) (And.intro hi (nm_r (xe_u (by omega) rfl) ?_)))
      exact ⟨rfl, rl_mk hd' ⟨hx.1, hx.2.1, hx.2.2.1, dn _ hx.2.2.2.1, Or.inl rfl⟩ ⟨hy.1, hy.2.1, hy.2.2.1, dn _ hy.2.2.2.1, hy.2.2.2.2.1, Or.inl rfl⟩⟩
    · exfalso
      rcases h with h | h
      · exact nI_pos (by omega) h
      · exact nI_ge (a := j) (b := 2 * A) hj (by omega) h
  · refine br_t rfl ?_
    refine br_c (fun _ => same _) (fun _ => yo_lit h8 (fun i hi' ei => ?_) (fun _ => br_t rfl (same _)))
    exfalso
    subst ei
    rcases h with h | h
    · exact nI_pos (by omega) h
    · exact nI_ge (a := i) (b := 2 * A) hi' (by omega) h
theorem zz_pop {k : Nat} (hd : rl_D T K F G A L R C hs H S) (hx : (en_D T K F G a_kind a_first a_second ∧ aw_D A L R a_left a_right ∧ cw_X C hs a_yes a_no ∧ sw_D H S a_stack ∧ (f_known = 0 ∨ (f_known = 1 ∧ ∃ tg, ac_P (wy_n T K F G A L R) tg (md_P T K F G A L R C hs H S) f_count f_always f_ever f_fewest f_most f_together a_found)))) (hy : (en_D T K F G b_kind b_first b_second ∧ aw_D A L R b_left b_right ∧ cw_Y C hs a_literals ∧ sw_D H S b_stack ∧ (f_closed = 0 ∨ (f_closed = 1 ∧ ci_P T K F G A L R (2 ^ A) a_possible a_classOf)) ∧ (g_known = 0 ∨ (g_known = 1 ∧ ml_P (md_P T K F G A L R C hs H S) (2 ^ A) f_models a_model)))) : wpX_pop (fun r u' => wpY_pop (fun r' v' => r' = r ∧ i_Rel (k + 4) u' v') (nI T, nI A, nI C, nI H, f_models, g_known, f_closed, b_kind, b_first, b_second, b_left, b_right, a_literals, b_stack, a_of, a_possible, a_model, a_classOf)) (nI T, nI A, nI C, nI H, f_trail, f_pending, f_known, f_count, f_always, f_ever, f_fewest, f_most, f_askA, f_askB, f_together, a_kind, a_first, a_second, a_left, a_right, a_yes, a_no, a_stack, a_state, a_trailAt, a_trailOld, a_pendingA, a_pendingB, a_found, a_says, a_mark) := by
  have hH := hd.2.2.2.1
  have same : ∀ r : Int32, r = r ∧ i_Rel (k + 4) (nI T, nI A, nI C, nI H, f_trail, f_pending, f_known, f_count, f_always, f_ever, f_fewest, f_most, f_askA, f_askB, f_together, a_kind, a_first, a_second, a_left, a_right, a_yes, a_no, a_stack, a_state, a_trailAt, a_trailOld, a_pendingA, a_pendingB, a_found, a_says, a_mark) (nI T, nI A, nI C, nI H, f_models, g_known, f_closed, b_kind, b_first, b_second, b_left, b_right, a_literals, b_stack, a_of, a_possible, a_model, a_classOf) := fun r => ⟨rfl, rl_mk hd hx hy⟩
  cases H with
  | zero => exact br_t rfl (br_t rfl (same _))
  | succ H =>
    have e : ¬ nI (H + 1) = 0 := nI_ne0 (by omega) (by omega)
    have hi : vp_in (nI (H + 1) - 1) 8 := by rw [nI_pred]; exact vp_in_nI (by omega) (by decide)
    have dn : ∀ (as : Nat → Int32), sw_D (H + 1) S as → sw_D H S as ∧ as (nI (H + 1) - 1).toNatClampNeg = nI (S H) := fun as h => ⟨fun q hq => h q (by omega), by rw [nI_pred]; exact xe_r (by omega) (h H (by omega))⟩
    have hd' : rl_D T K F G A L R C hs H S := by
      obtain ⟨w, a, c, ⟨s1, s2⟩⟩ := hd
      exact ⟨w, a, c, ⟨by omega, fun q hq => s2 q (by omega)⟩⟩
    refine br_f e (nm_r (e' := nI H) (nI_pred H) (And.intro hi ?_))
    refine br_f e (nm_r (e' := nI H) (nI_pred H) (And.intro hi ⟨?_, ?_⟩))
    · rw [(dn _ hx.2.2.2.1).2, (dn _ hy.2.2.2.1).2]
    · exact rl_mk hd' ⟨hx.1, hx.2.1, hx.2.2.1, (dn _ hx.2.2.2.1).1, Or.inl rfl⟩ ⟨hy.1, hy.2.1, hy.2.2.1, (dn _ hy.2.2.2.1).1, hy.2.2.2.2.1, Or.inl rfl⟩
theorem zz_clear {k : Nat} (hd : rl_D T K F G A L R C hs H S) (hx : (en_D T K F G a_kind a_first a_second ∧ aw_D A L R a_left a_right ∧ cw_X C hs a_yes a_no ∧ sw_D H S a_stack ∧ (f_known = 0 ∨ (f_known = 1 ∧ ∃ tg, ac_P (wy_n T K F G A L R) tg (md_P T K F G A L R C hs H S) f_count f_always f_ever f_fewest f_most f_together a_found)))) (hy : (en_D T K F G b_kind b_first b_second ∧ aw_D A L R b_left b_right ∧ cw_Y C hs a_literals ∧ sw_D H S b_stack ∧ (f_closed = 0 ∨ (f_closed = 1 ∧ ci_P T K F G A L R (2 ^ A) a_possible a_classOf)) ∧ (g_known = 0 ∨ (g_known = 1 ∧ ml_P (md_P T K F G A L R C hs H S) (2 ^ A) f_models a_model)))) (v1 : Int32) : wpX_clear (fun r u' => wpY_clear (fun r' v' => r' = r ∧ i_Rel (k + 4) u' v') (nI T, nI A, nI C, nI H, f_models, g_known, f_closed, b_kind, b_first, b_second, b_left, b_right, a_literals, b_stack, a_of, a_possible, a_model, a_classOf) v1) (nI T, nI A, nI C, nI H, f_trail, f_pending, f_known, f_count, f_always, f_ever, f_fewest, f_most, f_askA, f_askB, f_together, a_kind, a_first, a_second, a_left, a_right, a_yes, a_no, a_stack, a_state, a_trailAt, a_trailOld, a_pendingA, a_pendingB, a_found, a_says, a_mark) v1 := by
  have same : ∀ r : Int32, r = r ∧ i_Rel (k + 4) (nI T, nI A, nI C, nI H, f_trail, f_pending, f_known, f_count, f_always, f_ever, f_fewest, f_most, f_askA, f_askB, f_together, a_kind, a_first, a_second, a_left, a_right, a_yes, a_no, a_stack, a_state, a_trailAt, a_trailOld, a_pendingA, a_pendingB, a_found, a_says, a_mark) (nI T, nI A, nI C, nI H, f_models, g_known, f_closed, b_kind, b_first, b_second, b_left, b_right, a_literals, b_stack, a_of, a_possible, a_model, a_classOf) := fun r => ⟨rfl, rl_mk hd hx hy⟩
  obtain ⟨w, ⟨a1, a2⟩, ⟨c1, c2⟩, ⟨s1, s2⟩⟩ := hd
  have no : ∀ {p : Nat → Prop}, ∀ u, u < 0 → p u := fun u hu => absurd hu (Nat.not_lt_zero u)
  rcases ix_c v1 (N := 3) (by omega) with h1 | ⟨j, j1, rfl⟩
  · refine xo_bad (N := 3) h1 (by omega) (br_f (by decide) ?_)
    show wpY_clear _ _ _
    unfold wpY_clear
    exact yo_bad (N := 3) h1 (br_t rfl (same _))
  refine xo_in (N := 3) j1 (by omega) (br_t rfl ?_)
  have hc : j = 0 ∨ j = 1 ∨ j = 2 := by omega
  rcases hc with rfl | rfl | rfl
  · refine br_t rfl (br_t rfl (br_f (by decide) (br_f (by decide) ?_)))
    show wpY_clear _ _ _
    unfold wpY_clear
    refine yo_in (N := 3) (by omega) (by omega) (br_f (by decide) (br_t rfl (br_f (by decide) (br_f (by decide) (br_t rfl ?_)))))
    exact ⟨rfl, rl_mk (T := 0) (A := 0) (C := 0) (H := 0) (K := K) (F := F) (G := G) (L := L) (R := R) (hs := hs) (S := S) ⟨⟨Nat.zero_le _, no⟩, ⟨Nat.zero_le _, no⟩, ⟨Nat.zero_le _, no⟩, ⟨Nat.zero_le _, no⟩⟩ ⟨no, no, no, no, Or.inl rfl⟩ ⟨no, no, no, no, Or.inl rfl, Or.inl rfl⟩⟩
  · refine br_f (by decide) (br_t rfl (br_f (by decide) (br_f (by decide) (br_t rfl ?_))))
    show wpY_clear _ _ _
    unfold wpY_clear
    refine yo_in (N := 3) (by omega) (by omega) (br_f (by decide) (br_f (by decide) (br_t rfl (br_f (by decide) (br_t rfl (br_f (by decide) ?_))))))
    exact ⟨rfl, rl_mk (C := 0) (hs := hs) ⟨w, ⟨a1, a2⟩, ⟨Nat.zero_le _, no⟩, ⟨s1, s2⟩⟩ ⟨hx.1, hx.2.1, no, hx.2.2.2.1, Or.inl rfl⟩ ⟨hy.1, hy.2.1, no, hy.2.2.2.1, hy.2.2.2.2.1, Or.inl rfl⟩⟩
  · refine br_f (by decide) (br_f (by decide) (br_f (by decide) (br_t rfl (br_f (by decide) ?_))))
    show wpY_clear _ _ _
    unfold wpY_clear
    refine yo_in (N := 3) (by omega) (by omega) (br_f (by decide) (br_f (by decide) (br_f (by decide) (br_t rfl (br_f (by decide) (br_f (by decide) ?_))))))
    exact ⟨rfl, rl_mk (H := 0) (S := S) ⟨w, ⟨a1, a2⟩, ⟨c1, c2⟩, ⟨Nat.zero_le _, no⟩⟩ ⟨hx.1, hx.2.1, hx.2.2.1, no, Or.inl rfl⟩ ⟨hy.1, hy.2.1, hy.2.2.1, no, hy.2.2.2.2.1, Or.inl rfl⟩⟩
end
theorem i_vc_term {k : Nat} {u : SX} {v : SY} (I : i_Rel k u v) (hk : k + 4 ≤ 2048) (v1 : Int32) (v2 : Int32) (v3 : Int32) : wpX_term (fun r u' => wpY_term (fun r' v' => r' = r ∧ i_Rel (k + 4) u' v') v v1 v2 v3) u v1 v2 v3 := by
  obtain ⟨T, K, F, G, A, L, R, C, hs, H, S, hd, hX, hY⟩ := I
  refine rl_xe (P := fun u => wpX_term (fun r u' => wpY_term (fun r' v' => r' = r ∧ i_Rel (k + 4) u' v') v v1 v2 v3) u v1 v2 v3) hX ?_
  intro f_trail f_pending f_known f_count f_always f_ever f_fewest f_most f_askA f_askB f_together a_kind a_first a_second a_left a_right a_yes a_no a_stack a_state a_trailAt a_trailOld a_pendingA a_pendingB a_found a_says a_mark hx
  refine rl_ye (P := fun v => wpX_term (fun r u' => wpY_term (fun r' v' => r' = r ∧ i_Rel (k + 4) u' v') v v1 v2 v3) (nI T, nI A, nI C, nI H, f_trail, f_pending, f_known, f_count, f_always, f_ever, f_fewest, f_most, f_askA, f_askB, f_together, a_kind, a_first, a_second, a_left, a_right, a_yes, a_no, a_stack, a_state, a_trailAt, a_trailOld, a_pendingA, a_pendingB, a_found, a_says, a_mark) v1 v2 v3) hY ?_
  intro f_models g_known f_closed b_kind b_first b_second b_left b_right a_literals b_stack a_of a_possible a_model a_classOf hy
  exact zz_term hd hx hy v1 v2 v3

theorem i_vc_atom {k : Nat} {u : SX} {v : SY} (I : i_Rel k u v) (hk : k + 4 ≤ 2048) (v1 : Int32) (v2 : Int32) : wpX_atom (fun r u' => wpY_atom (fun r' v' => r' = r ∧ i_Rel (k + 4) u' v') v v1 v2) u v1 v2 := by
  obtain ⟨T, K, F, G, A, L, R, C, hs, H, S, hd, hX, hY⟩ := I
  refine rl_xe (P := fun u => wpX_atom (fun r u' => wpY_atom (fun r' v' => r' = r ∧ i_Rel (k + 4) u' v') v v1 v2) u v1 v2) hX ?_
  intro f_trail f_pending f_known f_count f_always f_ever f_fewest f_most f_askA f_askB f_together a_kind a_first a_second a_left a_right a_yes a_no a_stack a_state a_trailAt a_trailOld a_pendingA a_pendingB a_found a_says a_mark hx
  refine rl_ye (P := fun v => wpX_atom (fun r u' => wpY_atom (fun r' v' => r' = r ∧ i_Rel (k + 4) u' v') v v1 v2) (nI T, nI A, nI C, nI H, f_trail, f_pending, f_known, f_count, f_always, f_ever, f_fewest, f_most, f_askA, f_askB, f_together, a_kind, a_first, a_second, a_left, a_right, a_yes, a_no, a_stack, a_state, a_trailAt, a_trailOld, a_pendingA, a_pendingB, a_found, a_says, a_mark) v1 v2) hY ?_
  intro f_models g_known f_closed b_kind b_first b_second b_left b_right a_literals b_stack a_of a_possible a_model a_classOf hy
  exact zz_atom hd hx hy v1 v2

theorem i_vc_push {k : Nat} {u : SX} {v : SY} (I : i_Rel k u v) (hk : k + 4 ≤ 2048) (v1 : Int32) : wpX_push (fun r u' => wpY_push (fun r' v' => r' = r ∧ i_Rel (k + 4) u' v') v v1) u v1 := by
  obtain ⟨T, K, F, G, A, L, R, C, hs, H, S, hd, hX, hY⟩ := I
  refine rl_xe (P := fun u => wpX_push (fun r u' => wpY_push (fun r' v' => r' = r ∧ i_Rel (k + 4) u' v') v v1) u v1) hX ?_
  intro f_trail f_pending f_known f_count f_always f_ever f_fewest f_most f_askA f_askB f_together a_kind a_first a_second a_left a_right a_yes a_no a_stack a_state a_trailAt a_trailOld a_pendingA a_pendingB a_found a_says a_mark hx
  refine rl_ye (P := fun v => wpX_push (fun r u' => wpY_push (fun r' v' => r' = r ∧ i_Rel (k + 4) u' v') v v1) (nI T, nI A, nI C, nI H, f_trail, f_pending, f_known, f_count, f_always, f_ever, f_fewest, f_most, f_askA, f_askB, f_together, a_kind, a_first, a_second, a_left, a_right, a_yes, a_no, a_stack, a_state, a_trailAt, a_trailOld, a_pendingA, a_pendingB, a_found, a_says, a_mark) v1) hY ?_
  intro f_models g_known f_closed b_kind b_first b_second b_left b_right a_literals b_stack a_of a_possible a_model a_classOf hy
  exact zz_push hd hx hy v1

theorem i_vc_pop {k : Nat} {u : SX} {v : SY} (I : i_Rel k u v) (hk : k + 4 ≤ 2048) : wpX_pop (fun r u' => wpY_pop (fun r' v' => r' = r ∧ i_Rel (k + 4) u' v') v) u := by
  obtain ⟨T, K, F, G, A, L, R, C, hs, H, S, hd, hX, hY⟩ := I
  refine rl_xe (P := fun u => wpX_pop (fun r u' => wpY_pop (fun r' v' => r' = r ∧ i_Rel (k + 4) u' v') v) u) hX ?_
  intro f_trail f_pending f_known f_count f_always f_ever f_fewest f_most f_askA f_askB f_together a_kind a_first a_second a_left a_right a_yes a_no a_stack a_state a_trailAt a_trailOld a_pendingA a_pendingB a_found a_says a_mark hx
  refine rl_ye (P := fun v => wpX_pop (fun r u' => wpY_pop (fun r' v' => r' = r ∧ i_Rel (k + 4) u' v') v) (nI T, nI A, nI C, nI H, f_trail, f_pending, f_known, f_count, f_always, f_ever, f_fewest, f_most, f_askA, f_askB, f_together, a_kind, a_first, a_second, a_left, a_right, a_yes, a_no, a_stack, a_state, a_trailAt, a_trailOld, a_pendingA, a_pendingB, a_found, a_says, a_mark)) hY ?_
  intro f_models g_known f_closed b_kind b_first b_second b_left b_right a_literals b_stack a_of a_possible a_model a_classOf hy
  exact zz_pop hd hx hy

theorem i_vc_clear {k : Nat} {u : SX} {v : SY} (I : i_Rel k u v) (hk : k + 4 ≤ 2048) (v1 : Int32) : wpX_clear (fun r u' => wpY_clear (fun r' v' => r' = r ∧ i_Rel (k + 4) u' v') v v1) u v1 := by
  obtain ⟨T, K, F, G, A, L, R, C, hs, H, S, hd, hX, hY⟩ := I
  refine rl_xe (P := fun u => wpX_clear (fun r u' => wpY_clear (fun r' v' => r' = r ∧ i_Rel (k + 4) u' v') v v1) u v1) hX ?_
  intro f_trail f_pending f_known f_count f_always f_ever f_fewest f_most f_askA f_askB f_together a_kind a_first a_second a_left a_right a_yes a_no a_stack a_state a_trailAt a_trailOld a_pendingA a_pendingB a_found a_says a_mark hx
  refine rl_ye (P := fun v => wpX_clear (fun r u' => wpY_clear (fun r' v' => r' = r ∧ i_Rel (k + 4) u' v') v v1) (nI T, nI A, nI C, nI H, f_trail, f_pending, f_known, f_count, f_always, f_ever, f_fewest, f_most, f_askA, f_askB, f_together, a_kind, a_first, a_second, a_left, a_right, a_yes, a_no, a_stack, a_state, a_trailAt, a_trailOld, a_pendingA, a_pendingB, a_found, a_says, a_mark) v1) hY ?_
  intro f_models g_known f_closed b_kind b_first b_second b_left b_right a_literals b_stack a_of a_possible a_model a_classOf hy
  exact zz_clear hd hx hy v1
end
section
/-! clause -/
def lo_P (A : Nat) (p : Int32) : Prop := p = -1 ∨ ∃ q, q < 2 * A ∧ p = nI q
def cg_P (A C : Nat) (v1 v2 v3 : Int32) : Prop := C ≠ 12 ∧ lo_P A v1 ∧ lo_P A v2 ∧ lo_P A v3 ∧ ¬ (v1 = -1 ∧ v2 = -1 ∧ v3 = -1)
def hs_a (C : Nat) (h : Nat → Nat → Prop) (p : Int32) (i q : Nat) : Prop := h i q ∨ (i = C ∧ p = nI q ∧ q < 16)
theorem lo_no {A : Nat} {p : Int32} (h1 : ¬ p = -1) (h : p < 0 ∨ nI (2 * A) ≤ p) (hA : A ≤ 8) : ¬ lo_P A p := by
  rintro (e | ⟨q, q1, rfl⟩)
  · exact h1 e
  · rcases h with h | h
    · exact nI_pos (by omega) h
    · exact nI_ge (a := q) (b := 2 * A) q1 (by omega) h
section
variable {f_terms f_atoms f_clauses f_depth f_trail f_pending f_known f_count f_always f_ever f_fewest f_most f_askA f_askB f_together : Int32} {a_kind a_first a_second a_left a_right a_yes a_no a_stack a_state a_trailAt a_trailOld a_pendingA a_pendingB a_says a_mark : Nat → Int32} {a_found : Nat → Int64}
variable {f_models g_known f_closed : Int32} {b_kind b_first b_second b_left b_right a_literals b_stack a_of a_possible a_model a_classOf : Nat → Int32}
variable {T : Nat} {K F G : Nat → Nat} {A : Nat} {L R : Nat → Nat} {C : Nat} {hs : Nat → Nat → Prop} {H : Nat} {S : Nat → Nat}
theorem xc_top {post : Int32 → SX → Prop} {v1 v2 v3 : Int32} (hA : A ≤ 8) (hC : C ≤ 12) (kb : ¬ cg_P A C v1 v2 v3 → post (-1) (f_terms, nI A, nI C, f_depth, f_trail, f_pending, f_known, f_count, f_always, f_ever, f_fewest, f_most, f_askA, f_askB, f_together, a_kind, a_first, a_second, a_left, a_right, a_yes, a_no, a_stack, a_state, a_trailAt, a_trailOld, a_pendingA, a_pendingB, a_found, a_says, a_mark)) (kg : cg_P A C v1 v2 v3 → wX_clause_77 post v1 v2 v3 f_terms (nI A) (nI C) f_depth f_trail f_pending f_known f_count f_always f_ever f_fewest f_most f_askA f_askB f_together a_kind a_first a_second a_left a_right a_yes a_no a_stack a_state a_trailAt a_trailOld a_pendingA a_pendingB a_found a_says a_mark) : wpX_clause post (f_terms, nI A, nI C, f_depth, f_trail, f_pending, f_known, f_count, f_always, f_ever, f_fewest, f_most, f_askA, f_askB, f_together, a_kind, a_first, a_second, a_left, a_right, a_yes, a_no, a_stack, a_state, a_trailAt, a_trailOld, a_pendingA, a_pendingB, a_found, a_says, a_mark) v1 v2 v3 := by
  have z0 : ¬ (lo_P A v1 ∧ lo_P A v2 ∧ lo_P A v3) → wX_clause_43 post v1 v2 v3 f_terms (nI A) (nI C) f_depth f_trail f_pending f_known f_count f_always f_ever f_fewest f_most f_askA f_askB f_together a_kind a_first a_second a_left a_right a_yes a_no a_stack a_state a_trailAt a_trailOld a_pendingA a_pendingB a_found a_says a_mark := fun h =>
    have b := kb (fun g => h ⟨g.2.1, g.2.2.1, g.2.2.2.1⟩)
    br_c (fun _ => b) (fun _ => br_t rfl b)
  have z1 : lo_P A v1 → lo_P A v2 → lo_P A v3 → wX_clause_39 post v1 v2 v3 f_terms (nI A) (nI C) f_depth f_trail f_pending f_known f_count f_always f_ever f_fewest f_most f_askA f_askB f_together a_kind a_first a_second a_left a_right a_yes a_no a_stack a_state a_trailAt a_trailOld a_pendingA a_pendingB a_found a_says a_mark := fun h1 h2 h3 => by
    refine pk_eq C 12 (fun z => kb (fun g => g.1 z)) (fun z => br_f (by decide) ?_) rfl rfl (by omega) (by omega)
    refine br_c (fun e1 => br_c (fun e2 => br_c (fun e3 => ?_) (fun e3 => ?_)) (fun e2 => ?_)) (fun e1 => ?_)
    · exact kb (fun g => g.2.2.2.2 ⟨e1, e2, e3⟩)
    · exact kg ⟨z, h1, h2, h3, fun g => e3 g.2.2⟩
    · exact kg ⟨z, h1, h2, h3, fun g => e2 g.2.1⟩
    · exact kg ⟨z, h1, h2, h3, fun g => e1 g.1⟩
  have z26 : lo_P A v1 → lo_P A v2 → wX_clause_26 post v1 v2 v3 f_terms (nI A) (nI C) f_depth f_trail f_pending f_known f_count f_always f_ever f_fewest f_most f_askA f_askB f_together a_kind a_first a_second a_left a_right a_yes a_no a_stack a_state a_trailAt a_trailOld a_pendingA a_pendingB a_found a_says a_mark := fun h1 h2 => by
    refine br_c (fun e => z1 h1 h2 (Or.inl e)) (fun e => xo_lit hA (fun j hj ej => ?_) (fun h => ?_))
    · exact br_f (by decide) (z1 h1 h2 (Or.inr ⟨j, hj, ej⟩))
    · exact br_t rfl (z0 (fun g => lo_no e h hA g.2.2))
  have z13 : lo_P A v1 → wX_clause_13 post v1 v2 v3 f_terms (nI A) (nI C) f_depth f_trail f_pending f_known f_count f_always f_ever f_fewest f_most f_askA f_askB f_together a_kind a_first a_second a_left a_right a_yes a_no a_stack a_state a_trailAt a_trailOld a_pendingA a_pendingB a_found a_says a_mark := fun h1 => by
    refine br_c (fun e => z26 h1 (Or.inl e)) (fun e => xo_lit hA (fun j hj ej => ?_) (fun h => ?_))
    · exact br_f (by decide) (z26 h1 (Or.inr ⟨j, hj, ej⟩))
    · exact br_t rfl (z0 (fun g => lo_no e h hA g.2.1))
  refine br_c (fun e => z13 (Or.inl e)) (fun e => xo_lit hA (fun j hj ej => ?_) (fun h => ?_))
  · exact br_f (by decide) (z13 (Or.inr ⟨j, hj, ej⟩))
  · exact br_t rfl (z0 (fun g => lo_no e h hA g.1))
theorem yc_top {f_terms f_height f_known : Int32} {a_kind a_first a_second a_left a_right a_stack : Nat → Int32} {post : Int32 → SY → Prop} {v1 v2 v3 : Int32} (hA : A ≤ 8) (hC : C ≤ 12) (kb : ¬ cg_P A C v1 v2 v3 → post (-1) (f_terms, nI A, nI C, f_height, f_models, f_known, f_closed, a_kind, a_first, a_second, a_left, a_right, a_literals, a_stack, a_of, a_possible, a_model, a_classOf)) (kg : cg_P A C v1 v2 v3 → wY_clause_67 post v1 v2 v3 f_terms (nI A) (nI C) f_height f_models f_known f_closed a_kind a_first a_second a_left a_right a_literals a_stack a_of a_possible a_model a_classOf) : wpY_clause post (f_terms, nI A, nI C, f_height, f_models, f_known, f_closed, a_kind, a_first, a_second, a_left, a_right, a_literals, a_stack, a_of, a_possible, a_model, a_classOf) v1 v2 v3 := by
  refine pk_eq C 12 (fun z => kb (fun g => g.1 z)) (fun z => ?_) rfl rfl (by omega) (by omega)
  have z26 : ¬ (v1 = -1 ∧ v2 = -1 ∧ v3 = -1) → wY_clause_26 post v1 v2 v3 f_terms (nI A) (nI C) f_height f_models f_known f_closed a_kind a_first a_second a_left a_right a_literals a_stack a_of a_possible a_model a_classOf := fun hn => by
    have z52 : lo_P A v1 → lo_P A v2 → wY_clause_52 post v1 v2 v3 f_terms (nI A) (nI C) f_height f_models f_known f_closed a_kind a_first a_second a_left a_right a_literals a_stack a_of a_possible a_model a_classOf := fun h1 h2 => by
      refine br_c (fun e => kg ⟨z, h1, h2, Or.inl e, hn⟩) (fun e => yo_lit hA (fun j hj ej => ?_) (fun h => ?_))
      · exact br_f (by decide) (kg ⟨z, h1, h2, Or.inr ⟨j, hj, ej⟩, hn⟩)
      · exact br_t rfl (kb (fun g => lo_no e h hA g.2.2.2.1))
    have z39 : lo_P A v1 → wY_clause_39 post v1 v2 v3 f_terms (nI A) (nI C) f_height f_models f_known f_closed a_kind a_first a_second a_left a_right a_literals a_stack a_of a_possible a_model a_classOf := fun h1 => by
      refine br_c (fun e => z52 h1 (Or.inl e)) (fun e => yo_lit hA (fun j hj ej => ?_) (fun h => ?_))
      · exact br_f (by decide) (z52 h1 (Or.inr ⟨j, hj, ej⟩))
      · exact br_t rfl (kb (fun g => lo_no e h hA g.2.2.1))
    refine br_c (fun e => z39 (Or.inl e)) (fun e => yo_lit hA (fun j hj ej => ?_) (fun h => ?_))
    · exact br_f (by decide) (z39 (Or.inr ⟨j, hj, ej⟩))
    · exact br_t rfl (kb (fun g => lo_no e h hA g.2.1))
  refine br_c (fun e1 => br_c (fun e2 => br_c (fun e3 => ?_) (fun e3 => ?_)) (fun e2 => ?_)) (fun e1 => ?_)
  · exact kb (fun g => g.2.2.2.2 ⟨e1, e2, e3⟩)
  · exact z26 (fun g => e3 g.2.2)
  · exact z26 (fun g => e2 g.2.1)
  · exact z26 (fun g => e1 g.1)
theorem xn_name {post : SX → Prop} (hA : A ≤ 8) (hC : C < 12) {p : Int32} {h : Nat → Nat → Prop} (hp : lo_P A p) (hx : cw_X (C + 1) h a_yes a_no) (kk : ∀ ay an : Nat → Int32, cw_X (C + 1) (hs_a C h p) ay an → post (f_terms, f_atoms, nI C, f_depth, f_trail, f_pending, f_known, f_count, f_always, f_ever, f_fewest, f_most, f_askA, f_askB, f_together, a_kind, a_first, a_second, a_left, a_right, ay, an, a_stack, a_state, a_trailAt, a_trailOld, a_pendingA, a_pendingB, a_found, a_says, a_mark)) : wpX_name post (f_terms, f_atoms, nI C, f_depth, f_trail, f_pending, f_known, f_count, f_always, f_ever, f_fewest, f_most, f_askA, f_askB, f_together, a_kind, a_first, a_second, a_left, a_right, a_yes, a_no, a_stack, a_state, a_trailAt, a_trailOld, a_pendingA, a_pendingB, a_found, a_says, a_mark) p := by
  have ci : vp_in (nI C) 12 := vp_in_nI hC (by decide)
  rcases hp with rfl | ⟨q, q1, rfl⟩
  · refine br_f (by decide) (kk a_yes a_no (fun i hi a ha => ?_))
    have no : ∀ z : Nat, hs_a C h (-1) i z ↔ h i z := fun z => ⟨fun g => g.elim id (fun y => absurd y.2.1.symm (en_nm (by have := y.2.2; omega))), Or.inl⟩
    rw [no, no]; exact hx i hi a ha
  · have e1 : nI q &&& 1 = nI (q % 2) := bw_a1 (by omega)
    have e2 : nI q >>> ((1 : Int32) &&& 31) = nI (q / 2) := bw_s1 (by omega)
    have ry : a_yes (nI C).toNatClampNeg = a_yes C := xe_r (by omega) rfl
    have rn : a_no (nI C).toNatClampNeg = a_no C := xe_r (by omega) rfl
    have lit : ∀ i z : Nat, z < 16 → (hs_a C h (nI q) i z ↔ (h i z ∨ (i = C ∧ q = z))) := fun i z hz => by
      unfold hs_a
      exact ⟨fun g => g.elim Or.inl (fun y => Or.inr ⟨y.1, (nI_eq (by omega) (by omega)).mp y.2.1⟩), fun g => g.elim Or.inl (fun y => Or.inr ⟨y.1, congrArg nI y.2, hz⟩)⟩
    unfold wpX_name
    dsimp only
    rw [e1, e2, ry, rn]
    refine br_t (nI_pos' (by omega)) (pk_eq (q % 2) 0 (fun z => ?_) (fun z => ?_) rfl rfl (by omega) (by omega))
    · refine And.intro ci (And.intro ci (nm_r (e' := upd a_yes C (a_yes C ||| ((1 : Int32) <<< (nI (q / 2) &&& 31))).toInt16.toInt32) (xe_u (by omega) (by rw [pk_vs])) (kk _ _ (fun i hi a ha => ?_))))
      rw [lit _ _ (by omega), lit _ _ (by omega)]
      have g := hx i hi a ha
      refine ⟨?_, g.2.trans ⟨Or.inl, fun y => y.elim id (fun w => by omega)⟩⟩
      by_cases y : i = C
      · subst y
        rw [pk_us, xb_sl (by omega) (by omega), Bool.or_eq_true, g.1, decide_eq_true_eq]
        exact ⟨fun w => w.elim Or.inl (fun v => Or.inr ⟨rfl, by omega⟩), fun w => w.elim Or.inl (fun v => Or.inr (by omega))⟩
      · rw [pk_un y]
        exact g.1.trans ⟨Or.inl, fun w => w.elim id (fun v => absurd v.1 y)⟩
    · refine And.intro ci (And.intro ci (nm_r (e' := upd a_no C (a_no C ||| ((1 : Int32) <<< (nI (q / 2) &&& 31))).toInt16.toInt32) (xe_u (by omega) (by rw [pk_vs])) (kk _ _ (fun i hi a ha => ?_))))
      rw [lit _ _ (by omega), lit _ _ (by omega)]
      have g := hx i hi a ha
      refine ⟨g.1.trans ⟨Or.inl, fun y => y.elim id (fun w => by omega)⟩, ?_⟩
      by_cases y : i = C
      · subst y
        rw [pk_us, xb_sl (by omega) (by omega), Bool.or_eq_true, g.2, decide_eq_true_eq]
        exact ⟨fun w => w.elim Or.inl (fun v => Or.inr ⟨rfl, by omega⟩), fun w => w.elim Or.inl (fun v => Or.inr (by omega))⟩
      · rw [pk_un y]
        exact g.2.trans ⟨Or.inl, fun w => w.elim id (fun v => absurd v.1 y)⟩
/-- the clauses with one more -/
def hs_n (C : Nat) (hs : Nat → Nat → Prop) (v1 v2 v3 : Int32) : Nat → Nat → Prop := hs_a C (hs_a C (hs_a C (fun i q => i < C ∧ hs i q) v1) v2) v3
theorem hs_old {v1 v2 v3 : Int32} {i q : Nat} (hi : i < C) : hs_n C hs v1 v2 v3 i q ↔ hs i q := by
  unfold hs_n hs_a
  constructor
  · rintro (((g | g) | g) | g)
    · exact g.2
    · have := g.1; omega
    · have := g.1; omega
    · have := g.1; omega
  · exact fun g => Or.inl (Or.inl (Or.inl ⟨hi, g⟩))
theorem hs_new {v1 v2 v3 : Int32} {q : Nat} : hs_n C hs v1 v2 v3 C q ↔ (q < 16 ∧ (v1 = nI q ∨ v2 = nI q ∨ v3 = nI q)) := by
  unfold hs_n hs_a
  constructor
  · rintro (((g | g) | g) | g)
    · have := g.1; omega
    · exact ⟨g.2.2, Or.inl g.2.1⟩
    · exact ⟨g.2.2, Or.inr (Or.inl g.2.1)⟩
    · exact ⟨g.2.2, Or.inr (Or.inr g.2.1)⟩
  · rintro ⟨h, g | g | g⟩
    · exact Or.inl (Or.inl (Or.inr ⟨rfl, g, h⟩))
    · exact Or.inl (Or.inr ⟨rfl, g, h⟩)
    · exact Or.inr ⟨rfl, g, h⟩
theorem lo_lt {p : Int32} {q : Nat} (hA : A ≤ 8) (h : lo_P A p) (e : p = nI q) (hq : q < 16) : q < 2 * A := by
  rcases h with h | ⟨j, h1, h2⟩
  · exact absurd (e.symm.trans h) (en_nm (by omega))
  · have := (nI_eq (a := j) (b := q) (by omega) (by omega)).mp (h2.symm.trans e)
    omega
theorem hs_W (hA : A ≤ 8) (hc : cw_W A C hs) {v1 v2 v3 : Int32} (h : cg_P A C v1 v2 v3) : cw_W A (C + 1) (hs_n C hs v1 v2 v3) := by
  obtain ⟨g1, g2, g3, g4, g5⟩ := h
  refine ⟨by have := hc.1; omega, fun i hi => ?_⟩
  by_cases z : i = C
  · subst z
    refine ⟨fun q hq => ?_, ?_⟩
    · obtain ⟨q16, q2⟩ := hs_new.mp hq
      rcases q2 with e | e | e
      · exact lo_lt hA g2 e q16
      · exact lo_lt hA g3 e q16
      · exact lo_lt hA g4 e q16
    · rcases g2 with e1 | ⟨q, q1, e1⟩
      · rcases g3 with e2 | ⟨q, q1, e2⟩
        · rcases g4 with e3 | ⟨q, q1, e3⟩
          · exact absurd ⟨e1, e2, e3⟩ g5
          · exact ⟨q, hs_new.mpr ⟨by omega, Or.inr (Or.inr e3)⟩⟩
        · exact ⟨q, hs_new.mpr ⟨by omega, Or.inr (Or.inl e2)⟩⟩
      · exact ⟨q, hs_new.mpr ⟨by omega, Or.inl e1⟩⟩
  · have q := hc.2 i (by omega)
    refine ⟨fun p hp => q.1 p ((hs_old (by omega)).mp hp), ?_⟩
    obtain ⟨p, hp⟩ := q.2
    exact ⟨p, (hs_old (by omega)).mpr hp⟩
theorem lo_y {v : Int32} {P : Nat → Prop} (hA : A ≤ 8) (h : lo_P A v) (g : ∀ q, q < 16 → v = nI q → P q) : v < 0 ∨ ∃ q, P q ∧ v = nI q := by
  rcases h with rfl | ⟨q, q1, rfl⟩
  · exact Or.inl (by decide)
  · exact Or.inr ⟨q, g q (by omega) rfl, rfl⟩
theorem hs_Y (hA : A ≤ 8) (hc : cw_Y C hs a_literals) {v1 v2 v3 : Int32} (h : cg_P A C v1 v2 v3) : cw_Y (C + 1) (hs_n C hs v1 v2 v3) (upd (upd (upd a_literals (3 * C) v1) (3 * C + 1) v2) (3 * C + 2) v3) := by
  obtain ⟨g1, g2, g3, g4, g5⟩ := h
  intro i hi
  by_cases z : i = C
  · subst z
    have a0 : upd (upd (upd a_literals (3 * i) v1) (3 * i + 1) v2) (3 * i + 2) v3 (3 * i + 0) = v1 := by
      rw [pk_un (by omega), pk_un (by omega)]; exact pk_us
    have a1 : upd (upd (upd a_literals (3 * i) v1) (3 * i + 1) v2) (3 * i + 2) v3 (3 * i + 1) = v2 := by
      rw [pk_un (by omega)]; exact pk_us
    have a2 : upd (upd (upd a_literals (3 * i) v1) (3 * i + 1) v2) (3 * i + 2) v3 (3 * i + 2) = v3 := pk_us
    refine ⟨fun j hj => ?_, fun q hq => ?_⟩
    · have hj' : j = 0 ∨ j = 1 ∨ j = 2 := by omega
      rcases hj' with rfl | rfl | rfl
      · rw [a0]; exact lo_y hA g2 (fun q hq e => hs_new.mpr ⟨hq, Or.inl e⟩)
      · rw [a1]; exact lo_y hA g3 (fun q hq e => hs_new.mpr ⟨hq, Or.inr (Or.inl e)⟩)
      · rw [a2]; exact lo_y hA g4 (fun q hq e => hs_new.mpr ⟨hq, Or.inr (Or.inr e)⟩)
    · obtain ⟨_, e | e | e⟩ := hs_new.mp hq
      · exact ⟨0, by omega, by rw [a0]; exact e⟩
      · exact ⟨1, by omega, by rw [a1]; exact e⟩
      · exact ⟨2, by omega, by rw [a2]; exact e⟩
  · have q := hc i (by omega)
    have old : ∀ j, j < 3 → upd (upd (upd a_literals (3 * C) v1) (3 * C + 1) v2) (3 * C + 2) v3 (3 * i + j) = a_literals (3 * i + j) := fun j hj => by
      rw [pk_un (by omega), pk_un (by omega), pk_un (by omega)]
    refine ⟨fun j hj => ?_, fun p hp => ?_⟩
    · rw [old j hj]
      rcases q.1 j hj with e | ⟨p, p1, p2⟩
      · exact Or.inl e
      · exact Or.inr ⟨p, (hs_old (by omega)).mpr p1, p2⟩
    · obtain ⟨j, j1, j2⟩ := q.2 p ((hs_old (by omega)).mp hp)
      exact ⟨j, j1, by rw [old j j1]; exact j2⟩
theorem xc_77 {post : Int32 → SX → Prop} {v1 v2 v3 : Int32} (hA : A ≤ 8) (hC : C ≤ 12) (hx : cw_X C hs a_yes a_no) (g : cg_P A C v1 v2 v3) (kk : ∀ ay an : Nat → Int32, cw_X (C + 1) (hs_n C hs v1 v2 v3) ay an → post (nI C) (f_terms, f_atoms, nI (C + 1), f_depth, f_trail, f_pending, 0, f_count, f_always, f_ever, f_fewest, f_most, f_askA, f_askB, f_together, a_kind, a_first, a_second, a_left, a_right, ay, an, a_stack, a_state, a_trailAt, a_trailOld, a_pendingA, a_pendingB, a_found, a_says, a_mark)) : wX_clause_77 post v1 v2 v3 f_terms f_atoms (nI C) f_depth f_trail f_pending f_known f_count f_always f_ever f_fewest f_most f_askA f_askB f_together a_kind a_first a_second a_left a_right a_yes a_no a_stack a_state a_trailAt a_trailOld a_pendingA a_pendingB a_found a_says a_mark := by
  have hC' : C < 12 := by have := g.1; omega
  have ci : vp_in (nI C) 12 := vp_in_nI hC' (by decide)
  have h0 : cw_X (C + 1) (fun i q => i < C ∧ hs i q) (upd a_yes C 0) (upd a_no C 0) := fun i hi a ha => by
    by_cases z : i = C
    · subst z
      rw [pk_us, pk_us, b_0]
      exact ⟨⟨fun e => absurd e (by decide), fun e => by have := e.1; omega⟩, ⟨fun e => absurd e (by decide), fun e => by have := e.1; omega⟩⟩
    · rw [pk_un z, pk_un z]
      have q := hx i (by omega) a ha
      exact ⟨q.1.trans ⟨fun e => ⟨by omega, e⟩, fun e => e.2⟩, q.2.trans ⟨fun e => ⟨by omega, e⟩, fun e => e.2⟩⟩
  refine And.intro ci (nm_r (xe_u (by omega) xe_z0) (And.intro ci (nm_r (xe_u (by omega) xe_z0) ?_)))
  refine xn_name hA hC' g.2.1 h0 (fun y1 n1 h1 => ?_)
  refine xn_name hA hC' g.2.2.1 h1 (fun y2 n2 h2 => ?_)
  refine xn_name hA hC' g.2.2.2.1 h2 (fun y3 n3 h3 => ?_)
  exact nm_r (nI_1 _) (kk y3 n3 h3)
theorem yc_67 {f_terms f_height f_known : Int32} {a_kind a_first a_second a_left a_right a_stack : Nat → Int32} {post : Int32 → SY → Prop} {v1 v2 v3 : Int32} (hC : C < 12) (kk : post (nI C) (f_terms, f_atoms, nI (C + 1), f_height, f_models, 0, f_closed, a_kind, a_first, a_second, a_left, a_right, upd (upd (upd a_literals (3 * C) v1) (3 * C + 1) v2) (3 * C + 2) v3, a_stack, a_of, a_possible, a_model, a_classOf)) : wY_clause_67 post v1 v2 v3 f_terms f_atoms (nI C) f_height f_models f_known f_closed a_kind a_first a_second a_left a_right a_literals a_stack a_of a_possible a_model a_classOf := by
  have e0 : (3 : Int32) * nI C = nI (3 * C) := pk_mul 3 C
  have e1 : nI (3 * C) + 1 = nI (3 * C + 1) := nI_1 _
  have e2 : nI (3 * C) + 2 = nI (3 * C + 2) := nI_add _ 2
  unfold wY_clause_67
  rw [e0, e1, e2]
  exact And.intro (vp_in_nI (by omega) (by decide)) (nm_r (xe_u (by omega) rfl) (And.intro (vp_in_nI (by omega) (by decide)) (nm_r (xe_u (by omega) rfl) (And.intro (vp_in_nI (by omega) (by decide)) (nm_r (xe_u (by omega) rfl) (nm_r (nI_1 _) kk))))))
theorem zz_clause {k : Nat} (hd : rl_D T K F G A L R C hs H S) (hx : (en_D T K F G a_kind a_first a_second ∧ aw_D A L R a_left a_right ∧ cw_X C hs a_yes a_no ∧ sw_D H S a_stack ∧ (f_known = 0 ∨ (f_known = 1 ∧ ∃ tg, ac_P (wy_n T K F G A L R) tg (md_P T K F G A L R C hs H S) f_count f_always f_ever f_fewest f_most f_together a_found)))) (hy : (en_D T K F G b_kind b_first b_second ∧ aw_D A L R b_left b_right ∧ cw_Y C hs a_literals ∧ sw_D H S b_stack ∧ (f_closed = 0 ∨ (f_closed = 1 ∧ ci_P T K F G A L R (2 ^ A) a_possible a_classOf)) ∧ (g_known = 0 ∨ (g_known = 1 ∧ ml_P (md_P T K F G A L R C hs H S) (2 ^ A) f_models a_model)))) (v1 : Int32) (v2 : Int32) (v3 : Int32) : wpX_clause (fun r u' => wpY_clause (fun r' v' => r' = r ∧ i_Rel (k + 4) u' v') (nI T, nI A, nI C, nI H, f_models, g_known, f_closed, b_kind, b_first, b_second, b_left, b_right, a_literals, b_stack, a_of, a_possible, a_model, a_classOf) v1 v2 v3) (nI T, nI A, nI C, nI H, f_trail, f_pending, f_known, f_count, f_always, f_ever, f_fewest, f_most, f_askA, f_askB, f_together, a_kind, a_first, a_second, a_left, a_right, a_yes, a_no, a_stack, a_state, a_trailAt, a_trailOld, a_pendingA, a_pendingB, a_found, a_says, a_mark) v1 v2 v3 := by
  have h8 := hd.2.1.1
  have h12 := hd.2.2.1.1
  refine xc_top h8 h12 (fun b => ?_) (fun g => ?_)
  · exact yc_top h8 h12 (fun _ => ⟨rfl, rl_mk hd hx hy⟩) (fun g => absurd g b)
  · refine xc_77 h8 h12 hx.2.2.1 g (fun ay an hc => ?_)
    refine yc_top h8 h12 (fun b => absurd g b) (fun _ => yc_67 (by have := g.1; omega) ⟨rfl, ?_⟩)
    exact rl_mk ⟨hd.1, hd.2.1, hs_W h8 hd.2.2.1 g, hd.2.2.2⟩ ⟨hx.1, hx.2.1, hc, hx.2.2.2.1, Or.inl rfl⟩ ⟨hy.1, hy.2.1, hs_Y h8 hy.2.2.1 g, hy.2.2.2.1, hy.2.2.2.2.1, Or.inl rfl⟩
end
theorem i_vc_clause {k : Nat} {u : SX} {v : SY} (I : i_Rel k u v) (hk : k + 4 ≤ 2048) (v1 : Int32) (v2 : Int32) (v3 : Int32) : wpX_clause (fun r u' => wpY_clause (fun r' v' => r' = r ∧ i_Rel (k + 4) u' v') v v1 v2 v3) u v1 v2 v3 := by
  obtain ⟨T, K, F, G, A, L, R, C, hs, H, S, hd, hX, hY⟩ := I
  refine rl_xe (P := fun u => wpX_clause (fun r u' => wpY_clause (fun r' v' => r' = r ∧ i_Rel (k + 4) u' v') v v1 v2 v3) u v1 v2 v3) hX ?_
  intro f_trail f_pending f_known f_count f_always f_ever f_fewest f_most f_askA f_askB f_together a_kind a_first a_second a_left a_right a_yes a_no a_stack a_state a_trailAt a_trailOld a_pendingA a_pendingB a_found a_says a_mark hx
  refine rl_ye (P := fun v => wpX_clause (fun r u' => wpY_clause (fun r' v' => r' = r ∧ i_Rel (k + 4) u' v') v v1 v2 v3) (nI T, nI A, nI C, nI H, f_trail, f_pending, f_known, f_count, f_always, f_ever, f_fewest, f_most, f_askA, f_askB, f_together, a_kind, a_first, a_second, a_left, a_right, a_yes, a_no, a_stack, a_state, a_trailAt, a_trailOld, a_pendingA, a_pendingB, a_found, a_says, a_mark) v1 v2 v3) hY ?_
  intro f_models g_known f_closed b_kind b_first b_second b_left b_right a_literals b_stack a_of a_possible a_model a_classOf hy
  exact zz_clause hd hx hy v1 v2 v3
end
section
/-! know, learn; ranks; verdicts -/
theorem ct_up {P : Nat → Prop} {i : Nat} : ∀ {j : Nat}, i ≤ j → ct_n P i ≤ ct_n P j
  | 0, h => by have e : i = 0 := by omega
               rw [e]; exact Nat.le_refl _
  | j + 1, h => by
    rcases Nat.lt_or_ge i (j + 1) with z | z
    · have q := ct_up (P := P) (i := i) (j := j) (by omega)
      simp only [ct_n]; omega
    · have e : i = j + 1 := by omega
      rw [e]; exact Nat.le_refl _
theorem ct_s1 {P : Nat → Prop} {i : Nat} (h : P i) : ct_n P (i + 1) = ct_n P i + 1 := by
  show ct_n P i + ct_b (P i) = _
  rw [ct_b1 h]
theorem ct_s0 {P : Nat → Prop} {i : Nat} (h : ¬ P i) : ct_n P (i + 1) = ct_n P i := by
  show ct_n P i + ct_b (P i) = _
  rw [ct_b0 h]; rfl
theorem ct_sur {P : Nat → Prop} {k : Nat} : ∀ {N : Nat}, k < ct_n P N → ∃ w, w < N ∧ P w ∧ ct_n P w = k
  | 0, h => absurd h (Nat.not_lt_zero k)
  | N + 1, h => by
    rcases Nat.lt_or_ge k (ct_n P N) with z | z
    · obtain ⟨w, w1, w2⟩ := ct_sur z
      exact ⟨w, by omega, w2⟩
    · rcases Classical.em (P N) with p | p
      · rw [ct_s1 p] at h
        exact ⟨N, by omega, p, by omega⟩
      · rw [ct_s0 p] at h; omega
theorem ct_ri {P : Nat → Prop} {w x : Nat} (hw : P w) (hx : P x) (e : ct_n P w = ct_n P x) : w = x := by
  have a := ct_s1 hw
  have b := ct_s1 hx
  rcases Nat.lt_trichotomy w x with z | z | z
  · have := ct_up (P := P) (show w + 1 ≤ x by omega); omega
  · exact z
  · have := ct_up (P := P) (show x + 1 ≤ w by omega); omega
theorem ct_rl {P : Nat → Prop} {w N : Nat} (hw : P w) (h : w < N) : ct_n P w < ct_n P N := by
  have a := ct_s1 hw
  have b := ct_up (P := P) (show w + 1 ≤ N by omega)
  omega
theorem ml_at {M : Nat → Prop} {N : Nat} {ms : Int32} {mo : Nat → Int32} (h : ml_P M N ms mo) {k : Nat} (hk : k < ct_n M N) : ∃ w, w < N ∧ M w ∧ ct_n M w = k ∧ mo k = nI w := by
  obtain ⟨w, w1, w2, w3⟩ := ct_sur hk
  exact ⟨w, w1, w2, w3, by rw [← w3]; exact h.2 w w1 w2⟩
/-- all, none, some of the models -/
def vr_P (M P : Nat → Prop) (r : Int32) : Prop := ((∀ w, ¬ M w) ∧ r = -2) ∨ ((∃ w, M w) ∧ (∀ w, M w → P w) ∧ r = 1) ∨ ((∃ w, M w) ∧ (∀ w, M w → ¬ P w) ∧ r = 0) ∨ ((∃ w, M w ∧ P w) ∧ (∃ w, M w ∧ ¬ P w) ∧ r = 2)
theorem vr_u {M P : Nat → Prop} {r r' : Int32} (h : vr_P M P r) (h' : vr_P M P r') : r' = r := by
  rcases h with ⟨a, e⟩ | ⟨⟨w, w1⟩, a, e⟩ | ⟨⟨w, w1⟩, a, e⟩ | ⟨⟨w, w1, w2⟩, ⟨x, x1, x2⟩, e⟩ <;> rcases h' with ⟨a', e'⟩ | ⟨⟨w', w1'⟩, a', e'⟩ | ⟨⟨w', w1'⟩, a', e'⟩ | ⟨⟨w', w1', w2'⟩, ⟨x', x1', x2'⟩, e'⟩
  · rw [e, e']
  · exact absurd w1' (a w')
  · exact absurd w1' (a w')
  · exact absurd w1' (a w')
  · exact absurd w1 (a' w)
  · rw [e, e']
  · exact absurd (a w w1) (a' w w1)
  · exact absurd (a x' x1') x2'
  · exact absurd w1 (a' w)
  · exact absurd (a' w w1) (a w w1)
  · rw [e, e']
  · exact absurd w2' (a w' w1')
  · exact absurd w1 (a' w)
  · exact absurd (a' x x1) x2
  · exact absurd w2 (a' w w1)
  · rw [e, e']
/-- the models that have it, by their ranks -/
def hp_P (M P : Nat → Prop) (k : Nat) : Prop := ∃ w, M w ∧ ct_n M w = k ∧ P w
theorem hp_at {M P : Nat → Prop} {w k : Nat} (hw : M w) (e : ct_n M w = k) : hp_P M P k ↔ P w := by
  constructor
  · rintro ⟨x, x1, x2, x3⟩
    have := ct_ri hw x1 (e.trans x2.symm)
    rw [this]; exact x3
  · exact fun h => ⟨w, hw, e, h⟩
section
variable {f_terms f_atoms f_clauses f_depth f_trail f_pending f_known f_count f_always f_ever f_fewest f_most f_askA f_askB f_together : Int32} {a_kind a_first a_second a_left a_right a_yes a_no a_stack a_state a_trailAt a_trailOld a_pendingA a_pendingB a_says a_mark : Nat → Int32} {a_found : Nat → Int64}
variable {f_models g_known f_closed : Int32} {b_kind b_first b_second b_left b_right a_literals b_stack a_of a_possible a_model a_classOf : Nat → Int32}
variable {T : Nat} {K F G : Nat → Nat} {A : Nat} {L R : Nat → Nat} {C : Nat} {hs : Nat → Nat → Prop} {H : Nat} {S : Nat → Nat}
theorem md_lt (hA : A ≤ 8) {w : Nat} (h : md_P T K F G A L R C hs H S w) : w < 256 :=
  Nat.lt_of_lt_of_le h.1 (Nat.pow_le_pow_right (n := 2) (j := 8) (by decide) hA)
theorem md_ct (hA : A ≤ 8) : ct_n (md_P T K F G A L R C hs H S) 256 = ct_n (md_P T K F G A L R C hs H S) (2 ^ A) :=
  ct_lim (Nat.pow_le_pow_right (n := 2) (j := 8) (by decide) hA) (fun k h1 _ h2 => by have := h2.1; omega)
theorem xk_know {post : SX → Prop} (hd : rl_D T K F G A L R C hs H S) (hx : (en_D T K F G a_kind a_first a_second ∧ aw_D A L R a_left a_right ∧ cw_X C hs a_yes a_no ∧ sw_D H S a_stack ∧ (f_known = 0 ∨ (f_known = 1 ∧ ∃ tg, ac_P (wy_n T K F G A L R) tg (md_P T K F G A L R C hs H S) f_count f_always f_ever f_fewest f_most f_together a_found)))) (kk : ∀ (f_trail f_pending f_known f_count f_always f_ever f_fewest f_most f_askA f_askB f_together : Int32) (a_state a_trailAt a_trailOld a_pendingA a_pendingB : Nat → Int32) (a_found : Nat → Int64) (a_says a_mark : Nat → Int32) (tg : Nat → Prop), f_known = 1 → ac_P (wy_n T K F G A L R) tg (md_P T K F G A L R C hs H S) f_count f_always f_ever f_fewest f_most f_together a_found → post (nI T, nI A, nI C, nI H, f_trail, f_pending, f_known, f_count, f_always, f_ever, f_fewest, f_most, f_askA, f_askB, f_together, a_kind, a_first, a_second, a_left, a_right, a_yes, a_no, a_stack, a_state, a_trailAt, a_trailOld, a_pendingA, a_pendingB, a_found, a_says, a_mark)) : wpX_know post (nI T, nI A, nI C, nI H, f_trail, f_pending, f_known, f_count, f_always, f_ever, f_fewest, f_most, f_askA, f_askB, f_together, a_kind, a_first, a_second, a_left, a_right, a_yes, a_no, a_stack, a_state, a_trailAt, a_trailOld, a_pendingA, a_pendingB, a_found, a_says, a_mark) := by
  obtain ⟨x1, x2, x3, x4, x5⟩ := hx
  rcases x5 with rfl | ⟨rfl, tg, hac⟩
  · refine br_t rfl (xs_search (tg := fun _ => False) hd.1 x1 hd.2.1 x2 hd.2.2.1 x3 hd.2.2.2 x4 (Or.inl ⟨by decide, fun _ e => e⟩) ?_)
    intro V1 W1 st1 ta1 to1 pa1 pb1 sy1 mq1 ct1 al1 ev1 fw1 mo1 tog1 fd1 tr1 hV hac
    have eV : V1 = md_P T K F G A L R C hs H S := funext fun x => propext (hV x)
    subst eV
    exact kk _ _ _ _ _ _ _ _ _ _ _ _ _ _ _ _ _ _ _ _ rfl hac
  · exact br_f (show ¬ (1 : Int32) = 0 from by decide) (kk _ _ _ _ _ _ _ _ _ _ _ _ _ _ _ _ _ _ _ tg rfl hac)
theorem yk_learn {post : SY → Prop} (hd : rl_D T K F G A L R C hs H S) (hy : (en_D T K F G b_kind b_first b_second ∧ aw_D A L R b_left b_right ∧ cw_Y C hs a_literals ∧ sw_D H S b_stack ∧ (f_closed = 0 ∨ (f_closed = 1 ∧ ci_P T K F G A L R (2 ^ A) a_possible a_classOf)) ∧ (g_known = 0 ∨ (g_known = 1 ∧ ml_P (md_P T K F G A L R C hs H S) (2 ^ A) f_models a_model)))) (kk : ∀ (f_models g_known f_closed : Int32) (a_of a_possible a_model a_classOf : Nat → Int32), g_known = 1 → f_closed = 1 → ci_P T K F G A L R (2 ^ A) a_possible a_classOf → ml_P (md_P T K F G A L R C hs H S) (2 ^ A) f_models a_model → post (nI T, nI A, nI C, nI H, f_models, g_known, f_closed, b_kind, b_first, b_second, b_left, b_right, a_literals, b_stack, a_of, a_possible, a_model, a_classOf)) : wpY_learn post (nI T, nI A, nI C, nI H, f_models, g_known, f_closed, b_kind, b_first, b_second, b_left, b_right, a_literals, b_stack, a_of, a_possible, a_model, a_classOf) := by
  obtain ⟨y1, y2, y3, y4, y5, y6⟩ := hy
  refine yl_learn hd.1 y1 hd.2.1 y2 hd.2.2.1 y3 hd.2.2.2 y4 y5 y6 ?_
  intro o po co mo ms hci hml
  exact kk _ _ _ _ _ _ _ rfl rfl hci hml
theorem yk_closeAll {post : SY → Prop} (hd : rl_D T K F G A L R C hs H S) (hy : (en_D T K F G b_kind b_first b_second ∧ aw_D A L R b_left b_right ∧ cw_Y C hs a_literals ∧ sw_D H S b_stack ∧ (f_closed = 0 ∨ (f_closed = 1 ∧ ci_P T K F G A L R (2 ^ A) a_possible a_classOf)) ∧ (g_known = 0 ∨ (g_known = 1 ∧ ml_P (md_P T K F G A L R C hs H S) (2 ^ A) f_models a_model)))) (kk : ∀ (f_closed : Int32) (a_of a_possible a_classOf : Nat → Int32), f_closed = 1 → ci_P T K F G A L R (2 ^ A) a_possible a_classOf → post (nI T, nI A, nI C, nI H, f_models, g_known, f_closed, b_kind, b_first, b_second, b_left, b_right, a_literals, b_stack, a_of, a_possible, a_model, a_classOf)) : wpY_closeAll post (nI T, nI A, nI C, nI H, f_models, g_known, f_closed, b_kind, b_first, b_second, b_left, b_right, a_literals, b_stack, a_of, a_possible, a_model, a_classOf) := by
  obtain ⟨y1, y2, y3, y4, y5, y6⟩ := hy
  refine yl_closeAll hd.1 y1 hd.2.1 y2 y5 ?_
  intro o po co hci
  exact kk _ _ _ _ rfl hci
theorem zz_models {k : Nat} (hd : rl_D T K F G A L R C hs H S) (hx : (en_D T K F G a_kind a_first a_second ∧ aw_D A L R a_left a_right ∧ cw_X C hs a_yes a_no ∧ sw_D H S a_stack ∧ (f_known = 0 ∨ (f_known = 1 ∧ ∃ tg, ac_P (wy_n T K F G A L R) tg (md_P T K F G A L R C hs H S) f_count f_always f_ever f_fewest f_most f_together a_found)))) (hy : (en_D T K F G b_kind b_first b_second ∧ aw_D A L R b_left b_right ∧ cw_Y C hs a_literals ∧ sw_D H S b_stack ∧ (f_closed = 0 ∨ (f_closed = 1 ∧ ci_P T K F G A L R (2 ^ A) a_possible a_classOf)) ∧ (g_known = 0 ∨ (g_known = 1 ∧ ml_P (md_P T K F G A L R C hs H S) (2 ^ A) f_models a_model)))) : wpX_models (fun r u' => wpY_models (fun r' v' => r' = r ∧ i_Rel (k + 4) u' v') (nI T, nI A, nI C, nI H, f_models, g_known, f_closed, b_kind, b_first, b_second, b_left, b_right, a_literals, b_stack, a_of, a_possible, a_model, a_classOf)) (nI T, nI A, nI C, nI H, f_trail, f_pending, f_known, f_count, f_always, f_ever, f_fewest, f_most, f_askA, f_askB, f_together, a_kind, a_first, a_second, a_left, a_right, a_yes, a_no, a_stack, a_state, a_trailAt, a_trailOld, a_pendingA, a_pendingB, a_found, a_says, a_mark) := by
  unfold wpX_models
  dsimp only
  refine xk_know hd hx (fun f_trail f_pending f_known f_count f_always f_ever f_fewest f_most f_askA f_askB f_together a_state a_trailAt a_trailOld a_pendingA a_pendingB a_found a_says a_mark tg ek hac => ?_)
  show wpY_models _ _
  unfold wpY_models
  dsimp only
  refine yk_learn hd hy (fun f_models g_known f_closed a_of a_possible a_model a_classOf eg ec hci hml => ⟨?_, ?_⟩)
  · rw [hac.1, hml.1, md_ct hd.2.1.1]
  · exact rl_mk hd ⟨hx.1, hx.2.1, hx.2.2.1, hx.2.2.2.1, Or.inr ⟨ek, tg, hac⟩⟩ ⟨hy.1, hy.2.1, hy.2.2.1, hy.2.2.2.1, Or.inr ⟨ec, hci⟩, Or.inr ⟨eg, hml⟩⟩
theorem xm_21 {post : Int32 → SX → Prop} {M : Nat → Prop} (hfd : ∀ w, w < 256 → (bl_t (a_found (w / 64)) (w % 64) = true ↔ M w)) {w k : Nat} (hw : w < 256) (hM : M w) (hk : ct_n M w = k) (kk : post (nI w) (f_terms, f_atoms, f_clauses, f_depth, f_trail, f_pending, f_known, f_count, f_always, f_ever, f_fewest, f_most, f_askA, f_askB, f_together, a_kind, a_first, a_second, a_left, a_right, a_yes, a_no, a_stack, a_state, a_trailAt, a_trailOld, a_pendingA, a_pendingB, a_found, a_says, a_mark)) :
    ∀ (d i n : Nat), i + d = w → d < n → wX_model_21 post f_terms f_atoms f_clauses f_depth f_trail f_pending f_known f_count f_always f_ever f_fewest f_most f_askA f_askB f_together a_kind a_first a_second a_left a_right a_yes a_no a_stack a_state a_trailAt a_trailOld a_pendingA a_pendingB a_found a_says a_mark n (nI (k - ct_n M i)) (nI i) := by
  have bit : ∀ i, i < 256 → (((a_found (nI i >>> ((6 : Int32) &&& 31)).toNatClampNeg) >>> ((nI i &&& 63).toInt64 &&& 63)) &&& 1 = 0 ↔ ¬ M i) := fun i hi => by
    have e6 : nI i >>> ((6 : Int32) &&& 31) = nI (i / 64) := pk_shrN (by omega) _ 6 (by decide)
    have e63 : nI i &&& 63 = nI (i % 64) := pk_andN (by omega) 6 (by decide)
    rw [e6, e63, nI_clamp (by omega), bl_bit _ (by omega), ← hfd i hi, Bool.not_eq_true]
  have inn : ∀ i, i < 256 → vp_in (nI i >>> ((6 : Int32) &&& 31)) 4 := fun i hi => by
    rw [show nI i >>> ((6 : Int32) &&& 31) = nI (i / 64) from pk_shrN (by omega) _ 6 (by decide)]
    exact vp_in_nI (by omega) (by decide)
  have k256 : k ≤ 256 := by rw [← hk]; exact Nat.le_trans (ct_le _ _) (by omega)
  intro d
  induction d with
  | zero =>
    intro i n hi hn
    obtain ⟨n, rfl⟩ : ∃ m, n = m + 1 := ⟨n - 1, by omega⟩
    have e : i = w := by omega
    subst e
    refine br_f (by rw [hk, Nat.sub_self]; decide) (And.intro (inn i hw) (br_f (fun z => (bit i hw).mp z hM) kk))
  | succ d ih =>
    intro i n hi hn
    obtain ⟨n, rfl⟩ : ∃ m, n = m + 1 := ⟨n - 1, by omega⟩
    have u1 := ct_up (P := M) (show i ≤ w by omega)
    have s46 : (M i → ct_n M i < k) → wX_model_46 post (wX_model_21 post f_terms f_atoms f_clauses f_depth f_trail f_pending f_known f_count f_always f_ever f_fewest f_most f_askA f_askB f_together a_kind a_first a_second a_left a_right a_yes a_no a_stack a_state a_trailAt a_trailOld a_pendingA a_pendingB a_found a_says a_mark n) (nI (k - ct_n M i)) (nI i) f_terms f_atoms f_clauses f_depth f_trail f_pending f_known f_count f_always f_ever f_fewest f_most f_askA f_askB f_together a_kind a_first a_second a_left a_right a_yes a_no a_stack a_state a_trailAt a_trailOld a_pendingA a_pendingB a_found a_says a_mark := fun hlt => by
      have q := ih (i + 1) n (by omega) (by omega)
      refine And.intro (inn i (by omega)) (br_c (fun z => ?_) (fun z => ?_))
      · have nm := (bit i (by omega)).mp z
        rw [ct_s0 nm] at q
        exact nm_r (nI_1 _) q
      · have hm : M i := Classical.not_not.mp (fun y => z ((bit i (by omega)).mpr y))
        have l := hlt hm
        rw [ct_s1 hm] at q
        have e : nI (k - ct_n M i) + (-1) = nI (k - (ct_n M i + 1)) := by
          rw [sb_m1 (by omega)]; exact congrArg nI (by omega)
        exact nm_r e (nm_r (nI_1 _) q)
    refine pk_lt 0 (k - ct_n M i) (fun z => s46 (fun _ => by omega)) (fun z => ?_) rfl rfl (by omega) (by omega)
    have nm : ¬ M i := fun hm => by
      have a := ct_s1 hm
      have b := ct_up (P := M) (show i + 1 ≤ w by omega)
      omega
    exact And.intro (inn i (by omega)) (br_t ((bit i (by omega)).mpr nm) (s46 (fun y => absurd y nm)))
theorem zz_model {k : Nat} (hd : rl_D T K F G A L R C hs H S) (hx : (en_D T K F G a_kind a_first a_second ∧ aw_D A L R a_left a_right ∧ cw_X C hs a_yes a_no ∧ sw_D H S a_stack ∧ (f_known = 0 ∨ (f_known = 1 ∧ ∃ tg, ac_P (wy_n T K F G A L R) tg (md_P T K F G A L R C hs H S) f_count f_always f_ever f_fewest f_most f_together a_found)))) (hy : (en_D T K F G b_kind b_first b_second ∧ aw_D A L R b_left b_right ∧ cw_Y C hs a_literals ∧ sw_D H S b_stack ∧ (f_closed = 0 ∨ (f_closed = 1 ∧ ci_P T K F G A L R (2 ^ A) a_possible a_classOf)) ∧ (g_known = 0 ∨ (g_known = 1 ∧ ml_P (md_P T K F G A L R C hs H S) (2 ^ A) f_models a_model)))) (v1 : Int32) : wpX_model (fun r u' => wpY_model (fun r' v' => r' = r ∧ i_Rel (k + 4) u' v') (nI T, nI A, nI C, nI H, f_models, g_known, f_closed, b_kind, b_first, b_second, b_left, b_right, a_literals, b_stack, a_of, a_possible, a_model, a_classOf) v1) (nI T, nI A, nI C, nI H, f_trail, f_pending, f_known, f_count, f_always, f_ever, f_fewest, f_most, f_askA, f_askB, f_together, a_kind, a_first, a_second, a_left, a_right, a_yes, a_no, a_stack, a_state, a_trailAt, a_trailOld, a_pendingA, a_pendingB, a_found, a_says, a_mark) v1 := by
  have h8 := hd.2.1.1
  have p8 : 2 ^ A ≤ 2 ^ 8 := Nat.pow_le_pow_right (by decide) h8
  unfold wpX_model
  dsimp only
  refine xk_know hd hx (fun f_trail f_pending f_known f_count f_always f_ever f_fewest f_most f_askA f_askB f_together a_state a_trailAt a_trailOld a_pendingA a_pendingB a_found a_says a_mark tg ek hac => ?_)
  have cn := ct_le (md_P T K F G A L R C hs H S) (2 ^ A)
  have ec : f_count = nI (ct_n (md_P T K F G A L R C hs H S) (2 ^ A)) := by rw [hac.1, md_ct h8]
  subst ec
  rcases ix_c v1 (N := ct_n (md_P T K F G A L R C hs H S) (2 ^ A)) (by omega) with h | ⟨j, j1, rfl⟩
  · refine xo_bad h (by omega) (br_f (by decide) ?_)
    show wpY_model _ _ _
    unfold wpY_model
    dsimp only
    refine yk_learn hd hy (fun f_models g_known f_closed a_of a_possible a_model a_classOf eg ec' hci hml => ?_)
    have em := hml.1
    subst em
    exact yo_bad h (br_t rfl ⟨rfl, rl_mk hd ⟨hx.1, hx.2.1, hx.2.2.1, hx.2.2.2.1, Or.inr ⟨ek, tg, hac⟩⟩ ⟨hy.1, hy.2.1, hy.2.2.1, hy.2.2.2.1, Or.inr ⟨ec', hci⟩, Or.inr ⟨eg, hml⟩⟩⟩)
  · obtain ⟨w, w1, w2, w3⟩ := ct_sur j1
    refine xo_in j1 (by omega) (br_t rfl ⟨w + 1, ?_⟩)
    refine xm_21 (M := md_P T K F G A L R C hs H S) (k := j) hac.2.2.2.1 (by omega) w2 w3 ?_ w 0 (w + 1) (by omega) (by omega)
    show wpY_model _ _ _
    unfold wpY_model
    dsimp only
    refine yk_learn hd hy (fun f_models g_known f_closed a_of a_possible a_model a_classOf eg ec' hci hml => ?_)
    have em := hml.1
    subst em
    refine yo_in j1 (by omega) (br_f (by decide) (And.intro (vp_in_nI (by omega) (by decide)) ⟨?_, rl_mk hd ⟨hx.1, hx.2.1, hx.2.2.1, hx.2.2.2.1, Or.inr ⟨ek, tg, hac⟩⟩ ⟨hy.1, hy.2.1, hy.2.2.1, hy.2.2.2.1, Or.inr ⟨ec', hci⟩, Or.inr ⟨eg, hml⟩⟩⟩))
    have g := hml.2 w w1 w2
    rw [w3] at g
    exact xe_r (by omega) g
end
theorem i_vc_models {k : Nat} {u : SX} {v : SY} (I : i_Rel k u v) (hk : k + 4 ≤ 2048) : wpX_models (fun r u' => wpY_models (fun r' v' => r' = r ∧ i_Rel (k + 4) u' v') v) u := by
  obtain ⟨T, K, F, G, A, L, R, C, hs, H, S, hd, hX, hY⟩ := I
  refine rl_xe (P := fun u => wpX_models (fun r u' => wpY_models (fun r' v' => r' = r ∧ i_Rel (k + 4) u' v') v) u) hX ?_
  intro f_trail f_pending f_known f_count f_always f_ever f_fewest f_most f_askA f_askB f_together a_kind a_first a_second a_left a_right a_yes a_no a_stack a_state a_trailAt a_trailOld a_pendingA a_pendingB a_found a_says a_mark hx
  refine rl_ye (P := fun v => wpX_models (fun r u' => wpY_models (fun r' v' => r' = r ∧ i_Rel (k + 4) u' v') v) (nI T, nI A, nI C, nI H, f_trail, f_pending, f_known, f_count, f_always, f_ever, f_fewest, f_most, f_askA, f_askB, f_together, a_kind, a_first, a_second, a_left, a_right, a_yes, a_no, a_stack, a_state, a_trailAt, a_trailOld, a_pendingA, a_pendingB, a_found, a_says, a_mark)) hY ?_
  intro f_models g_known f_closed b_kind b_first b_second b_left b_right a_literals b_stack a_of a_possible a_model a_classOf hy
  exact zz_models hd hx hy

theorem i_vc_model {k : Nat} {u : SX} {v : SY} (I : i_Rel k u v) (hk : k + 4 ≤ 2048) (v1 : Int32) : wpX_model (fun r u' => wpY_model (fun r' v' => r' = r ∧ i_Rel (k + 4) u' v') v v1) u v1 := by
  obtain ⟨T, K, F, G, A, L, R, C, hs, H, S, hd, hX, hY⟩ := I
  refine rl_xe (P := fun u => wpX_model (fun r u' => wpY_model (fun r' v' => r' = r ∧ i_Rel (k + 4) u' v') v v1) u v1) hX ?_
  intro f_trail f_pending f_known f_count f_always f_ever f_fewest f_most f_askA f_askB f_together a_kind a_first a_second a_left a_right a_yes a_no a_stack a_state a_trailAt a_trailOld a_pendingA a_pendingB a_found a_says a_mark hx
  refine rl_ye (P := fun v => wpX_model (fun r u' => wpY_model (fun r' v' => r' = r ∧ i_Rel (k + 4) u' v') v v1) (nI T, nI A, nI C, nI H, f_trail, f_pending, f_known, f_count, f_always, f_ever, f_fewest, f_most, f_askA, f_askB, f_together, a_kind, a_first, a_second, a_left, a_right, a_yes, a_no, a_stack, a_state, a_trailAt, a_trailOld, a_pendingA, a_pendingB, a_found, a_says, a_mark) v1) hY ?_
  intro f_models g_known f_closed b_kind b_first b_second b_left b_right a_literals b_stack a_of a_possible a_model a_classOf hy
  exact zz_model hd hx hy v1
end
section
/-! holds, one, classes -/
theorem xb_bit1 (x : Int32) {u : Nat} (hu : u < 32) : ((x >>> (nI u &&& 31)) &&& 1) = 1 ↔ bt x u = true := by
  have h0 := xb_bit x hu
  have h1 : (x >>> (nI u &&& 31)) &&& 1 = 0 ∨ (x >>> (nI u &&& 31)) &&& 1 = 1 := by
    obtain ⟨j, j1, j2⟩ := pk_andE (x >>> (nI u &&& 31)) (m := 1) 1 (by decide)
    have hj : j = 0 ∨ j = 1 := by omega
    rcases hj with rfl | rfl
    · exact Or.inl j2
    · exact Or.inr j2
  constructor
  · intro e
    cases hb : bt x u
    · rw [h0.mpr hb] at e; exact absurd e (by decide)
    · rfl
  · intro e
    rcases h1 with z | z
    · rw [h0.mp z] at e; exact absurd e (by decide)
    · exact z
theorem wh_p0 {j w : Nat} (h : j % 2 = 0) : wy_h w j ↔ w.testBit (j / 2) = true := by
  have e : j = 2 * (j / 2) := by omega
  have q := wh_e (w := w) (a := j / 2)
  rw [← e] at q; exact q
theorem wh_p1 {j w : Nat} (h : j % 2 = 1) : wy_h w j ↔ w.testBit (j / 2) = false := by
  have e : j = 2 * (j / 2) + 1 := by omega
  have q := wh_o (w := w) (a := j / 2)
  rw [← e] at q; exact q
section
variable {f_terms f_atoms f_clauses f_depth f_trail f_pending f_known f_count f_always f_ever f_fewest f_most f_askA f_askB f_together : Int32} {a_kind a_first a_second a_left a_right a_yes a_no a_stack a_state a_trailAt a_trailOld a_pendingA a_pendingB a_says a_mark : Nat → Int32} {a_found : Nat → Int64}
variable {f_models g_known f_closed : Int32} {b_kind b_first b_second b_left b_right a_literals b_stack a_of a_possible a_model a_classOf : Nat → Int32}
variable {T : Nat} {K F G : Nat → Nat} {A : Nat} {L R : Nat → Nat} {C : Nat} {hs : Nat → Nat → Prop} {H : Nat} {S : Nat → Nat}
theorem yv_verdict {f_terms f_atoms f_clauses f_height f_known : Int32} {a_kind a_first a_second a_left a_right a_stack : Nat → Int32} {post : Int32 → Prop} {M P : Nat → Prop} {B : Nat} (hB : ct_n M B ≤ 256) (hM : ∀ w, M w → w < B) (kk : ∀ r, vr_P M P r → post r) : wpY_verdict post (f_terms, f_atoms, f_clauses, f_height, nI (ct_n M B), f_known, f_closed, a_kind, a_first, a_second, a_left, a_right, a_literals, a_stack, a_of, a_possible, a_model, a_classOf) (nI (ct_n (hp_P M P) (ct_n M B))) := by
  have lh := ct_le (hp_P M P) (ct_n M B)
  refine pk_eq (ct_n M B) 0 (fun z => ?_) (fun z => ?_) rfl rfl (by omega) (by omega)
  · exact kk _ (Or.inl ⟨fun w hw => ct_zero.mp z w (hM w hw) hw, rfl⟩)
  · have ex : ∃ w, M w := by
      obtain ⟨w, _, w2, _⟩ := ct_sur (P := M) (k := 0) (N := B) (by omega)
      exact ⟨w, w2⟩
    refine pk_eq (ct_n (hp_P M P) (ct_n M B)) (ct_n M B) (fun y => ?_) (fun y => ?_) rfl rfl (by omega) (by omega)
    · refine kk _ (Or.inr (Or.inl ⟨ex, fun w hw => ?_, rfl⟩))
      exact (hp_at hw rfl).mp (ct_full.mp y _ (ct_rl hw (hM w hw)))
    · refine pk_eq (ct_n (hp_P M P) (ct_n M B)) 0 (fun x => ?_) (fun x => ?_) rfl rfl (by omega) (by omega)
      · refine kk _ (Or.inr (Or.inr (Or.inl ⟨ex, fun w hw hp => ?_, rfl⟩)))
        exact ct_zero.mp x _ (ct_rl hw (hM w hw)) ((hp_at hw rfl).mpr hp)
      · refine kk _ (Or.inr (Or.inr (Or.inr ⟨?_, ?_, rfl⟩)))
        · refine Classical.byContradiction (fun g => x (ct_zero.mpr (fun i _ hi => ?_)))
          obtain ⟨w, w1, w2, w3⟩ := hi
          exact g ⟨w, w1, w3⟩
        · refine Classical.byContradiction (fun g => y (ct_full.mpr (fun i hi => ?_)))
          obtain ⟨w, w1, w2, w3⟩ := ct_sur hi
          exact ⟨w, w2, w3, Classical.not_not.mp (fun q => g ⟨w, w2, q⟩)⟩
theorem yh_18 {f_terms f_atoms f_clauses f_height f_known : Int32} {a_kind a_first a_second a_left a_right a_stack : Nat → Int32} {post : Int32 → SY → Prop} {M : Nat → Prop} {B j : Nat} (hj : j < 16) (hB2 : B ≤ 256) (hM : ∀ w, M w → w < B) (hml : ml_P M B (nI (ct_n M B)) a_model) (kk : ∀ r, vr_P M (fun w => wy_h w j) r → post r (f_terms, f_atoms, f_clauses, f_height, nI (ct_n M B), f_known, f_closed, a_kind, a_first, a_second, a_left, a_right, a_literals, a_stack, a_of, a_possible, a_model, a_classOf)) :
    ∀ (d i n : Nat), i + d = ct_n M B → d < n → wY_holds_18 post (nI j) f_terms f_atoms f_clauses f_height (nI (ct_n M B)) f_known f_closed a_kind a_first a_second a_left a_right a_literals a_stack a_of a_possible a_model a_classOf n (nI (ct_n (hp_P M (fun w => wy_h w j)) i)) (nI i)
  | 0, i, n + 1, hi, hn => by
    have lb := ct_le M B
    have e : i = ct_n M B := by omega
    subst e
    exact br_t (nI_le (by omega) (by omega)) (yv_verdict (by omega) hM kk)
  | d + 1, i, n + 1, hi, hn => by
    have lb := ct_le M B
    obtain ⟨w, w1, w2, w3, w4⟩ := ml_at hml (k := i) (by omega)
    have ih := yh_18 hj hB2 hM hml kk d (i + 1) n (by omega) (by omega)
    have iff := hp_at (P := fun w => wy_h w j) w2 w3
    refine br_f (nI_ge (by omega) (by omega)) (And.intro (vp_in_nI (by omega) (by decide)) ?_)
    rw [xe_r (a := a_model) (by omega) w4]
    refine yh_in (by omega) hj (fun z => ?_) (fun z => ?_)
    · rw [ct_s1 (iff.mpr z)] at ih
      exact br_f (by decide) (nm_r (nI_1 _) (nm_r (nI_1 _) ih))
    · rw [ct_s0 (fun g => z (iff.mp g))] at ih
      exact br_t rfl (nm_r (nI_1 _) ih)
theorem yo_one {f_terms f_atoms f_clauses f_height f_known : Int32} {a_kind a_first a_second a_left a_right a_stack : Nat → Int32} {post : Int32 → Prop} {B : Nat} (hT : T ≤ 16) (hB2 : B ≤ 256) (hci : ci_P T K F G A L R B a_possible a_classOf) {w t u : Nat} (hw : w < B) (ht : t < T) (hu : u < T) (k1 : wy_C T K F G A L R w t u → post 1) (k0 : ¬ wy_C T K F G A L R w t u → post 0) : wpY_areOne post (f_terms, f_atoms, f_clauses, f_height, f_models, f_known, f_closed, a_kind, a_first, a_second, a_left, a_right, a_literals, a_stack, a_of, a_possible, a_model, a_classOf) (nI w) (nI t) (nI u) := by
  obtain ⟨_, f, hf, hco⟩ := hci w hw
  have e16 : ∀ i, ((16 : Int32) * nI w) + nI i = nI (16 * w + i) := fun i => by
    rw [show (16 : Int32) * nI w = nI (16 * w) from pk_mul 16 w, nI_add]
  have ft := hf t ht
  have fu := hf u hu
  unfold wpY_areOne
  dsimp only
  rw [e16, e16]
  refine And.intro (vp_in_nI (by omega) (by decide)) (And.intro (vp_in_nI (by omega) (by decide)) (pk_eq (f t) (f u) (fun z => k1 ((ft.2.2 u hu).mp z)) (fun z => k0 (fun g => z ((ft.2.2 u hu).mpr g))) (xe_r (by omega) (hco t ht)) (xe_r (by omega) (hco u hu)) (by omega) (by omega)))
theorem zz_holds {k : Nat} (hd : rl_D T K F G A L R C hs H S) (hx : (en_D T K F G a_kind a_first a_second ∧ aw_D A L R a_left a_right ∧ cw_X C hs a_yes a_no ∧ sw_D H S a_stack ∧ (f_known = 0 ∨ (f_known = 1 ∧ ∃ tg, ac_P (wy_n T K F G A L R) tg (md_P T K F G A L R C hs H S) f_count f_always f_ever f_fewest f_most f_together a_found)))) (hy : (en_D T K F G b_kind b_first b_second ∧ aw_D A L R b_left b_right ∧ cw_Y C hs a_literals ∧ sw_D H S b_stack ∧ (f_closed = 0 ∨ (f_closed = 1 ∧ ci_P T K F G A L R (2 ^ A) a_possible a_classOf)) ∧ (g_known = 0 ∨ (g_known = 1 ∧ ml_P (md_P T K F G A L R C hs H S) (2 ^ A) f_models a_model)))) (v1 : Int32) : wpX_holds (fun r u' => wpY_holds (fun r' v' => r' = r ∧ i_Rel (k + 4) u' v') (nI T, nI A, nI C, nI H, f_models, g_known, f_closed, b_kind, b_first, b_second, b_left, b_right, a_literals, b_stack, a_of, a_possible, a_model, a_classOf) v1) (nI T, nI A, nI C, nI H, f_trail, f_pending, f_known, f_count, f_always, f_ever, f_fewest, f_most, f_askA, f_askB, f_together, a_kind, a_first, a_second, a_left, a_right, a_yes, a_no, a_stack, a_state, a_trailAt, a_trailOld, a_pendingA, a_pendingB, a_found, a_says, a_mark) v1 := by
  have h8 := hd.2.1.1
  have p8 : 2 ^ A ≤ 2 ^ 8 := Nat.pow_le_pow_right (by decide) h8
  unfold wpX_holds
  dsimp only
  refine xo_lit h8 (fun j hj ej => ?_) (fun h => ?_)
  · subst ej
    refine br_f (by decide) (xk_know hd hx (fun f_trail f_pending f_known f_count f_always f_ever f_fewest f_most f_askA f_askB f_together a_state a_trailAt a_trailOld a_pendingA a_pendingB a_found a_says a_mark tg ek hac => ?_))
    have kY : ∀ r, vr_P (md_P T K F G A L R C hs H S) (fun w => wy_h w j) r → wpY_holds (fun r' v' => r' = r ∧ i_Rel (k + 4) (nI T, nI A, nI C, nI H, f_trail, f_pending, f_known, f_count, f_always, f_ever, f_fewest, f_most, f_askA, f_askB, f_together, a_kind, a_first, a_second, a_left, a_right, a_yes, a_no, a_stack, a_state, a_trailAt, a_trailOld, a_pendingA, a_pendingB, a_found, a_says, a_mark) v') (nI T, nI A, nI C, nI H, f_models, g_known, f_closed, b_kind, b_first, b_second, b_left, b_right, a_literals, b_stack, a_of, a_possible, a_model, a_classOf) (nI j) := fun r hr => by
      unfold wpY_holds
      dsimp only
      refine yo_lit h8 (fun i hi ei => ?_) (fun h => ?_)
      · refine br_f (by decide) (yk_learn hd hy (fun f_models g_known f_closed a_of a_possible a_model a_classOf eg ec' hci hml => ?_))
        have em := hml.1
        subst em
        exact ⟨ct_n (md_P T K F G A L R C hs H S) (2 ^ A) + 1, yh_18 (M := md_P T K F G A L R C hs H S) (B := 2 ^ A) (by omega) p8 (fun w hw => hw.1) hml (fun r' hr' => ⟨vr_u hr hr', rl_mk hd ⟨hx.1, hx.2.1, hx.2.2.1, hx.2.2.2.1, Or.inr ⟨ek, tg, hac⟩⟩ ⟨hy.1, hy.2.1, hy.2.2.1, hy.2.2.2.1, Or.inr ⟨ec', hci⟩, Or.inr ⟨eg, hml⟩⟩⟩) _ 0 _ (Nat.zero_add _) (Nat.lt_succ_self _)⟩
      · exfalso
        rcases h with h | h
        · exact nI_pos (by omega) h
        · exact nI_ge (a := j) (b := 2 * A) hj (by omega) h
    obtain ⟨c1, c2, c3, _⟩ := hac
    have cb := ct_le (md_P T K F G A L R C hs H S) 256
    refine pk_eq (ct_n (md_P T K F G A L R C hs H S) 256) 0 (fun z => ?_) (fun z => ?_) c1 rfl (by omega) (by omega)
    · exact kY _ (Or.inl ⟨fun w hw => ct_zero.mp z w (md_lt h8 hw) hw, rfl⟩)
    · have ex : ∃ w, md_P T K F G A L R C hs H S w := by
        obtain ⟨w, _, w2, _⟩ := ct_sur (P := md_P T K F G A L R C hs H S) (k := 0) (N := 256) (by omega)
        exact ⟨w, w2⟩
      have a1 := c2 (j / 2) (by omega)
      have a2 := c3 (j / 2) (by omega)
      refine nm_r (e' := nI (j / 2)) (bw_s1 (by omega)) (nm_r (e' := nI (j % 2)) (bw_a1 (by omega)) (br_c (fun y => ?_) (fun y => br_c (fun x => ?_) (fun x => ?_))))
      · have al := a1.mp ((xb_bit1 _ (by omega)).mp y)
        rcases Nat.mod_two_eq_zero_or_one j with p | p
        · rw [p]
          exact kY _ (Or.inr (Or.inl ⟨ex, fun w hw => (wh_p0 p).mpr (al w hw), by decide⟩))
        · rw [p]
          refine kY _ (Or.inr (Or.inr (Or.inl ⟨ex, fun w hw g => ?_, by decide⟩)))
          have g1 := (wh_p1 p).mp g
          rw [al w hw] at g1; exact absurd g1 (by decide)
      · have nv : ∀ w, md_P T K F G A L R C hs H S w → w.testBit (j / 2) = false := fun w hw => by
          have g := (xb_bit _ (by omega)).mp x
          cases hb : w.testBit (j / 2)
          · rfl
          · rw [a2.mpr ⟨w, hw, hb⟩] at g; exact absurd g (by decide)
        rcases Nat.mod_two_eq_zero_or_one j with p | p
        · rw [p]
          refine kY _ (Or.inr (Or.inr (Or.inl ⟨ex, fun w hw g => ?_, rfl⟩)))
          have g1 := (wh_p0 p).mp g
          rw [nv w hw] at g1; exact absurd g1 (by decide)
        · rw [p]
          exact kY _ (Or.inr (Or.inl ⟨ex, fun w hw => (wh_p1 p).mpr (nv w hw), rfl⟩))
      · have s1 : ∃ w, md_P T K F G A L R C hs H S w ∧ w.testBit (j / 2) = true := by
          refine a2.mp ?_
          cases hb : bt f_ever (j / 2)
          · exact absurd ((xb_bit _ (by omega)).mpr hb) x
          · rfl
        have s2 : ∃ w, md_P T K F G A L R C hs H S w ∧ w.testBit (j / 2) = false := by
          refine Classical.byContradiction (fun g => y ((xb_bit1 _ (by omega)).mpr (a1.mpr (fun w hw => ?_))))
          cases hb : w.testBit (j / 2)
          · exact absurd ⟨w, hw, hb⟩ g
          · rfl
        obtain ⟨w, w1, w2⟩ := s1
        obtain ⟨v, v1, v2⟩ := s2
        refine kY _ (Or.inr (Or.inr (Or.inr ?_)))
        rcases Nat.mod_two_eq_zero_or_one j with p | p
        · exact ⟨⟨w, w1, (wh_p0 p).mpr w2⟩, ⟨v, v1, fun g => by rw [(wh_p0 p).mp g] at v2; exact absurd v2 (by decide)⟩, rfl⟩
        · exact ⟨⟨v, v1, (wh_p1 p).mpr v2⟩, ⟨w, w1, fun g => by rw [(wh_p1 p).mp g] at w2; exact absurd w2 (by decide)⟩, rfl⟩
  · refine br_t rfl ?_
    show wpY_holds _ _ _
    unfold wpY_holds
    dsimp only
    refine yo_lit h8 (fun i hi ei => ?_) (fun h' => br_t rfl ⟨rfl, rl_mk hd hx hy⟩)
    exfalso
    subst ei
    rcases h with h | h
    · exact nI_pos (by omega) h
    · exact nI_ge (a := i) (b := 2 * A) hi (by omega) h
theorem yo_33 {f_atoms f_clauses f_height f_known : Int32} {a_kind a_first a_second a_left a_right a_stack : Nat → Int32} {post : Int32 → SY → Prop} {M : Nat → Prop} {B t u : Nat} (hT : T ≤ 16) (hB2 : B ≤ 256) (hM : ∀ w, M w → w < B) (ht : t < T) (hu : u < T) (hci : ci_P T K F G A L R B a_possible a_classOf) (hml : ml_P M B (nI (ct_n M B)) a_model) (kk : ∀ r, vr_P M (fun w => wy_C T K F G A L R w t u) r → post r (nI T, f_atoms, f_clauses, f_height, nI (ct_n M B), f_known, f_closed, a_kind, a_first, a_second, a_left, a_right, a_literals, a_stack, a_of, a_possible, a_model, a_classOf)) :
    ∀ (d i n : Nat), i + d = ct_n M B → d < n → wY_one_33 post (nI t) (nI u) (nI T) f_atoms f_clauses f_height (nI (ct_n M B)) f_known f_closed a_kind a_first a_second a_left a_right a_literals a_stack a_of a_possible a_model a_classOf n (nI (ct_n (hp_P M (fun w => wy_C T K F G A L R w t u)) i)) (nI i)
  | 0, i, n + 1, hi, hn => by
    have lb := ct_le M B
    have e : i = ct_n M B := by omega
    subst e
    exact br_t (nI_le (by omega) (by omega)) (yv_verdict (by omega) hM kk)
  | d + 1, i, n + 1, hi, hn => by
    have lb := ct_le M B
    obtain ⟨w, w1, w2, w3, w4⟩ := ml_at hml (k := i) (by omega)
    have ih := yo_33 hT hB2 hM ht hu hci hml kk d (i + 1) n (by omega) (by omega)
    have iff := hp_at (P := fun w => wy_C T K F G A L R w t u) w2 w3
    refine br_f (nI_ge (by omega) (by omega)) (And.intro (vp_in_nI (by omega) (by decide)) ?_)
    rw [xe_r (a := a_model) (by omega) w4]
    refine yo_one hT hB2 hci w1 ht hu (fun z => ?_) (fun z => ?_)
    · rw [ct_s1 (iff.mpr z)] at ih
      exact br_f (by decide) (nm_r (nI_1 _) (nm_r (nI_1 _) ih))
    · rw [ct_s0 (fun g => z (iff.mp g))] at ih
      exact br_t rfl (nm_r (nI_1 _) ih)
theorem zz_one {k : Nat} (hd : rl_D T K F G A L R C hs H S) (hx : (en_D T K F G a_kind a_first a_second ∧ aw_D A L R a_left a_right ∧ cw_X C hs a_yes a_no ∧ sw_D H S a_stack ∧ (f_known = 0 ∨ (f_known = 1 ∧ ∃ tg, ac_P (wy_n T K F G A L R) tg (md_P T K F G A L R C hs H S) f_count f_always f_ever f_fewest f_most f_together a_found)))) (hy : (en_D T K F G b_kind b_first b_second ∧ aw_D A L R b_left b_right ∧ cw_Y C hs a_literals ∧ sw_D H S b_stack ∧ (f_closed = 0 ∨ (f_closed = 1 ∧ ci_P T K F G A L R (2 ^ A) a_possible a_classOf)) ∧ (g_known = 0 ∨ (g_known = 1 ∧ ml_P (md_P T K F G A L R C hs H S) (2 ^ A) f_models a_model)))) (v1 : Int32) (v2 : Int32) : wpX_one (fun r u' => wpY_one (fun r' v' => r' = r ∧ i_Rel (k + 4) u' v') (nI T, nI A, nI C, nI H, f_models, g_known, f_closed, b_kind, b_first, b_second, b_left, b_right, a_literals, b_stack, a_of, a_possible, a_model, a_classOf) v1 v2) (nI T, nI A, nI C, nI H, f_trail, f_pending, f_known, f_count, f_always, f_ever, f_fewest, f_most, f_askA, f_askB, f_together, a_kind, a_first, a_second, a_left, a_right, a_yes, a_no, a_stack, a_state, a_trailAt, a_trailOld, a_pendingA, a_pendingB, a_found, a_says, a_mark) v1 v2 := by
  have h8 := hd.2.1.1
  have hT := hd.1.1
  have p8 : 2 ^ A ≤ 2 ^ 8 := Nat.pow_le_pow_right (by decide) h8
  unfold wpX_one
  dsimp only
  rcases ix_c v1 (N := T) (by omega) with h1 | ⟨t, t1, rfl⟩
  · refine xo_bad h1 (by omega) (br_f (by decide) ?_)
    show wpY_one _ _ _ _
    unfold wpY_one
    exact yo_bad h1 (br_t rfl ⟨rfl, rl_mk hd hx hy⟩)
  rcases ix_c v2 (N := T) (by omega) with h2 | ⟨u, u1, rfl⟩
  · refine xo_in t1 (by omega) (br_t rfl (xo_bad h2 (by omega) (br_f (by decide) ?_)))
    show wpY_one _ _ _ _
    unfold wpY_one
    exact yo_in t1 (by omega) (br_f (by decide) (yo_bad h2 (br_t rfl ⟨rfl, rl_mk hd hx hy⟩)))
  refine xo_in t1 (by omega) (br_t rfl (xo_in u1 (by omega) (br_t rfl ?_)))
  refine xs_search (tg := fun w => wy_C T K F G A L R w t u) hd.1 hx.1 hd.2.1 hx.2.1 hd.2.2.1 hx.2.2.1 hd.2.2.2 hx.2.2.2.1 (Or.inr ⟨t, u, t1, u1, rfl, rfl, fun _ => Iff.rfl⟩) ?_
  intro V1 W1 st1 ta1 to1 pa1 pb1 sy1 mq1 ct1 al1 ev1 fw1 mo1 tog1 fd1 tr1 hV hac
  have eV : V1 = md_P T K F G A L R C hs H S := funext fun x => propext (hV x)
  subst eV
  have kY : ∀ r, vr_P (md_P T K F G A L R C hs H S) (fun w => wy_C T K F G A L R w t u) r → wpY_one (fun r' v' => r' = r ∧ i_Rel (k + 4) (nI T, nI A, nI C, nI H, tr1, 0, 1, ct1, al1, ev1, fw1, mo1, nI t, nI u, tog1, a_kind, a_first, a_second, a_left, a_right, a_yes, a_no, a_stack, st1, ta1, to1, pa1, pb1, fd1, sy1, mq1) v') (nI T, nI A, nI C, nI H, f_models, g_known, f_closed, b_kind, b_first, b_second, b_left, b_right, a_literals, b_stack, a_of, a_possible, a_model, a_classOf) (nI t) (nI u) := fun r hr => by
    unfold wpY_one
    refine yo_in t1 (by omega) (br_f (by decide) (yo_in u1 (by omega) (br_f (by decide) ?_)))
    refine yk_learn hd hy (fun f_models g_known f_closed a_of a_possible a_model a_classOf eg ec' hci hml => ?_)
    have em := hml.1
    subst em
    exact ⟨ct_n (md_P T K F G A L R C hs H S) (2 ^ A) + 1, yo_33 (M := md_P T K F G A L R C hs H S) (B := 2 ^ A) hT p8 (fun w hw => hw.1) t1 u1 hci hml (fun r' hr' => ⟨vr_u hr hr', rl_mk hd ⟨hx.1, hx.2.1, hx.2.2.1, hx.2.2.2.1, Or.inr ⟨rfl, _, hac⟩⟩ ⟨hy.1, hy.2.1, hy.2.2.1, hy.2.2.2.1, Or.inr ⟨ec', hci⟩, Or.inr ⟨eg, hml⟩⟩⟩) _ 0 _ (Nat.zero_add _) (Nat.lt_succ_self _)⟩
  have cb := ct_le (md_P T K F G A L R C hs H S) 256
  have cg := ct_le (fun w => md_P T K F G A L R C hs H S w ∧ wy_C T K F G A L R w t u) 256
  have cm : ct_n (fun w => md_P T K F G A L R C hs H S w ∧ wy_C T K F G A L R w t u) 256 ≤ ct_n (md_P T K F G A L R C hs H S) 256 := ct_mono (fun _ _ g => g.1)
  have c1 := hac.1
  have c7 := hac.2.2.2.2.2.2
  refine pk_eq (ct_n (md_P T K F G A L R C hs H S) 256) 0 (fun z => ?_) (fun z => ?_) c1 rfl (by omega) (by omega)
  · exact kY _ (Or.inl ⟨fun w hw => ct_zero.mp z w (md_lt h8 hw) hw, rfl⟩)
  · have ex : ∃ w, md_P T K F G A L R C hs H S w := by
      obtain ⟨w, _, w2, _⟩ := ct_sur (P := md_P T K F G A L R C hs H S) (k := 0) (N := 256) (by omega)
      exact ⟨w, w2⟩
    refine pk_eq (ct_n (fun w => md_P T K F G A L R C hs H S w ∧ wy_C T K F G A L R w t u) 256) 0 (fun y => ?_) (fun y => ?_) c7 rfl (by omega) (by omega)
    · exact kY _ (Or.inr (Or.inr (Or.inl ⟨ex, fun w hw g => ct_zero.mp y w (md_lt h8 hw) ⟨hw, g⟩, rfl⟩)))
    · have s1 : ∃ w, md_P T K F G A L R C hs H S w ∧ wy_C T K F G A L R w t u := by
        obtain ⟨w, _, w2, _⟩ := ct_sur (P := fun w => md_P T K F G A L R C hs H S w ∧ wy_C T K F G A L R w t u) (k := 0) (N := 256) (by omega)
        exact ⟨w, w2⟩
      refine pk_eq (ct_n (fun w => md_P T K F G A L R C hs H S w ∧ wy_C T K F G A L R w t u) 256) (ct_n (md_P T K F G A L R C hs H S) 256) (fun x => ?_) (fun x => ?_) c7 c1 (by omega) (by omega)
      · refine kY _ (Or.inr (Or.inl ⟨ex, fun w hw => ?_, rfl⟩))
        refine Classical.byContradiction (fun g => ?_)
        have := ct_lt (P := fun w => md_P T K F G A L R C hs H S w ∧ wy_C T K F G A L R w t u) (Q := md_P T K F G A L R C hs H S) (a := w) (fun q => g q.2) hw (N := 256) (fun _ _ q => q.1) (md_lt h8 hw)
        omega
      · refine kY _ (Or.inr (Or.inr (Or.inr ⟨s1, ?_, rfl⟩)))
        refine Classical.byContradiction (fun g => x (ct_eq (fun w _ => ⟨fun q => q.1, fun q => ⟨q, Classical.not_not.mp (fun e => g ⟨w, q, e⟩)⟩⟩)))
end
theorem i_vc_holds {k : Nat} {u : SX} {v : SY} (I : i_Rel k u v) (hk : k + 4 ≤ 2048) (v1 : Int32) : wpX_holds (fun r u' => wpY_holds (fun r' v' => r' = r ∧ i_Rel (k + 4) u' v') v v1) u v1 := by
  obtain ⟨T, K, F, G, A, L, R, C, hs, H, S, hd, hX, hY⟩ := I
  refine rl_xe (P := fun u => wpX_holds (fun r u' => wpY_holds (fun r' v' => r' = r ∧ i_Rel (k + 4) u' v') v v1) u v1) hX ?_
  intro f_trail f_pending f_known f_count f_always f_ever f_fewest f_most f_askA f_askB f_together a_kind a_first a_second a_left a_right a_yes a_no a_stack a_state a_trailAt a_trailOld a_pendingA a_pendingB a_found a_says a_mark hx
  refine rl_ye (P := fun v => wpX_holds (fun r u' => wpY_holds (fun r' v' => r' = r ∧ i_Rel (k + 4) u' v') v v1) (nI T, nI A, nI C, nI H, f_trail, f_pending, f_known, f_count, f_always, f_ever, f_fewest, f_most, f_askA, f_askB, f_together, a_kind, a_first, a_second, a_left, a_right, a_yes, a_no, a_stack, a_state, a_trailAt, a_trailOld, a_pendingA, a_pendingB, a_found, a_says, a_mark) v1) hY ?_
  intro f_models g_known f_closed b_kind b_first b_second b_left b_right a_literals b_stack a_of a_possible a_model a_classOf hy
  exact zz_holds hd hx hy v1

theorem i_vc_one {k : Nat} {u : SX} {v : SY} (I : i_Rel k u v) (hk : k + 4 ≤ 2048) (v1 : Int32) (v2 : Int32) : wpX_one (fun r u' => wpY_one (fun r' v' => r' = r ∧ i_Rel (k + 4) u' v') v v1 v2) u v1 v2 := by
  obtain ⟨T, K, F, G, A, L, R, C, hs, H, S, hd, hX, hY⟩ := I
  refine rl_xe (P := fun u => wpX_one (fun r u' => wpY_one (fun r' v' => r' = r ∧ i_Rel (k + 4) u' v') v v1 v2) u v1 v2) hX ?_
  intro f_trail f_pending f_known f_count f_always f_ever f_fewest f_most f_askA f_askB f_together a_kind a_first a_second a_left a_right a_yes a_no a_stack a_state a_trailAt a_trailOld a_pendingA a_pendingB a_found a_says a_mark hx
  refine rl_ye (P := fun v => wpX_one (fun r u' => wpY_one (fun r' v' => r' = r ∧ i_Rel (k + 4) u' v') v v1 v2) (nI T, nI A, nI C, nI H, f_trail, f_pending, f_known, f_count, f_always, f_ever, f_fewest, f_most, f_askA, f_askB, f_together, a_kind, a_first, a_second, a_left, a_right, a_yes, a_no, a_stack, a_state, a_trailAt, a_trailOld, a_pendingA, a_pendingB, a_found, a_says, a_mark) v1 v2) hY ?_
  intro f_models g_known f_closed b_kind b_first b_second b_left b_right a_literals b_stack a_of a_possible a_model a_classOf hy
  exact zz_one hd hx hy v1 v2
end
section
/-! classes -/
def cs_P (M : Nat → Prop) (nc : Nat → Nat) (z : Prop) (r : Int32) : Prop := ((∀ w, ¬ M w) ∧ r = -2) ∨ ∃ v, M v ∧ r = nI (nc v) ∧ ∀ w, M w → (z → nc v ≤ nc w) ∧ (¬ z → nc w ≤ nc v)
theorem cs_u {M : Nat → Prop} {nc : Nat → Nat} {z : Prop} {r r' : Int32} (h : cs_P M nc z r) (h' : cs_P M nc z r') : r' = r := by
  rcases h with ⟨a, e⟩ | ⟨v, v1, e, v2⟩ <;> rcases h' with ⟨a', e'⟩ | ⟨v', v1', e', v2'⟩
  · rw [e, e']
  · exact absurd v1' (a v')
  · exact absurd v1 (a' v)
  · rw [e, e']
    apply congrArg nI
    have g1 := v2 v' v1'
    have g2 := v2' v v1
    rcases Classical.em z with y | y
    · exact Nat.le_antisymm (g2.1 y) (g1.1 y)
    · exact Nat.le_antisymm (g1.2 y) (g2.2 y)
/-- the best among the models of ranks below i -/
def bs_P (M : Nat → Prop) (nc : Nat → Nat) (z : Prop) (i : Nat) (r : Int32) : Prop := (i = 0 ∧ r = -2) ∨ ∃ v, M v ∧ ct_n M v < i ∧ r = nI (nc v) ∧ ∀ w, M w → ct_n M w < i → (z → nc v ≤ nc w) ∧ (¬ z → nc w ≤ nc v)
theorem bs_keep {M : Nat → Prop} {nc : Nat → Nat} {z : Prop} {i u v : Nat} (hu : M u) (eu : ct_n M u = i) (hv : M v) (hl : ct_n M v < i) (hb : ∀ w, M w → ct_n M w < i → (z → nc v ≤ nc w) ∧ (¬ z → nc w ≤ nc v)) (hc : (z → nc v ≤ nc u) ∧ (¬ z → nc u ≤ nc v)) : bs_P M nc z (i + 1) (nI (nc v)) := by
  refine Or.inr ⟨v, hv, by omega, rfl, fun w hw hr => ?_⟩
  by_cases y : ct_n M w = i
  · rw [ct_ri hw hu (y.trans eu.symm)]; exact hc
  · exact hb w hw (by omega)
theorem bs_new {M : Nat → Prop} {nc : Nat → Nat} {z : Prop} {i u : Nat} {r : Int32} (hu : M u) (eu : ct_n M u = i) (hb : bs_P M nc z i r) (hc : ∀ v, M v → r = nI (nc v) → (z → nc u ≤ nc v) ∧ (¬ z → nc v ≤ nc u)) : bs_P M nc z (i + 1) (nI (nc u)) := by
  refine Or.inr ⟨u, hu, by omega, rfl, fun w hw hr => ?_⟩
  by_cases y : ct_n M w = i
  · rw [ct_ri hw hu (y.trans eu.symm)]; exact ⟨fun _ => Nat.le_refl _, fun _ => Nat.le_refl _⟩
  · rcases hb with ⟨b1, _⟩ | ⟨v, v1, v2, v3, v4⟩
    · omega
    · have g := v4 w hw (by omega)
      have h := hc v v1 v3
      exact ⟨fun q => Nat.le_trans (h.1 q) (g.1 q), fun q => Nat.le_trans (g.2 q) (h.2 q)⟩
section
variable {f_terms f_atoms f_clauses f_depth f_trail f_pending f_known f_count f_always f_ever f_fewest f_most f_askA f_askB f_together : Int32} {a_kind a_first a_second a_left a_right a_yes a_no a_stack a_state a_trailAt a_trailOld a_pendingA a_pendingB a_says a_mark : Nat → Int32} {a_found : Nat → Int64}
variable {f_models g_known f_closed : Int32} {b_kind b_first b_second b_left b_right a_literals b_stack a_of a_possible a_model a_classOf : Nat → Int32}
variable {T : Nat} {K F G : Nat → Nat} {A : Nat} {L R : Nat → Nat} {C : Nat} {hs : Nat → Nat → Prop} {H : Nat} {S : Nat → Nat}
theorem yk_33 {f_atoms f_clauses f_height f_known : Int32} {a_kind a_first a_second a_left a_right a_stack : Nat → Int32} {post : Int32 → SY → Prop} {J19 : Int32 → Int32 → Prop} {x1 x2 : Int32} {f : Nat → Nat} {w m : Nat} (hT : T ≤ 16) (hw : w < 256) (hm : m < 256) (em : a_model m = nI w) (hf : ∀ t, t < T → f t ≤ t) (hco : ∀ t, t < T → a_classOf (16 * w + t) = nI (f t))
    (kk : (x2 < 0 → J19 (nI (ct_n (fun t => f t = t) T)) (nI (m + 1))) ∧ (¬ x2 < 0 → ((x1 = 0 → ((x2 ≤ nI (ct_n (fun t => f t = t) T) → J19 x2 (nI (m + 1))) ∧ (¬ x2 ≤ nI (ct_n (fun t => f t = t) T) → J19 (nI (ct_n (fun t => f t = t) T)) (nI (m + 1))))) ∧ (¬ x1 = 0 → ((nI (ct_n (fun t => f t = t) T) ≤ x2 → J19 x2 (nI (m + 1))) ∧ (¬ nI (ct_n (fun t => f t = t) T) ≤ x2 → J19 (nI (ct_n (fun t => f t = t) T)) (nI (m + 1)))))))) :
    ∀ (d i n : Nat), i + d = T → d < n → wY_classes_33 post J19 x1 x2 (nI m) (nI T) f_atoms f_clauses f_height f_models f_known f_closed a_kind a_first a_second a_left a_right a_literals a_stack a_of a_possible a_model a_classOf n (nI (ct_n (fun t => f t = t) i)) (nI i)
  | 0, i, n + 1, hi, hn => by
    have e : i = T := by omega
    subst e
    refine br_t (nI_le (by omega) (by omega)) (br_c (fun z => nm_r (nI_1 _) (kk.1 z)) (fun z => br_c (fun y => br_c (fun x => ?_) (fun x => ?_)) (fun y => br_c (fun x => ?_) (fun x => ?_))))
    · exact nm_r (nI_1 _) (((kk.2 z).1 y).1 x)
    · exact nm_r (nI_1 _) (((kk.2 z).1 y).2 x)
    · exact nm_r (nI_1 _) (((kk.2 z).2 y).1 x)
    · exact nm_r (nI_1 _) (((kk.2 z).2 y).2 x)
  | d + 1, i, n + 1, hi, hn => by
    have ih : wY_classes_33 post J19 x1 x2 (nI m) (nI T) f_atoms f_clauses f_height f_models f_known f_closed a_kind a_first a_second a_left a_right a_literals a_stack a_of a_possible a_model a_classOf n (nI (ct_n (fun t => f t = t) (i + 1))) (nI (i + 1)) := yk_33 hT hw hm em hf hco kk d (i + 1) n (by omega) (by omega)
    have e16 : ((16 : Int32) * nI w) + nI i = nI (16 * w + i) := by
      rw [show (16 : Int32) * nI w = nI (16 * w) from pk_mul 16 w, nI_add]
    have fi := hf i (by omega)
    refine br_f (nI_ge (by omega) (by omega)) (And.intro (vp_in_nI hm (by decide)) ?_)
    rw [xe_r (a := a_model) (by omega) em, e16]
    refine And.intro (vp_in_nI (by omega) (by decide)) (pk_eq (f i) i (fun z => ?_) (fun z => ?_) (xe_r (by omega) (hco i (by omega))) rfl (by omega) (by omega))
    · rw [ct_s1 (P := fun t => f t = t) z] at ih
      exact nm_r (nI_1 _) (nm_r (nI_1 _) ih)
    · rw [ct_s0 (P := fun t => f t = t) z] at ih
      exact nm_r (nI_1 _) ih
theorem yk_19 {f_atoms f_clauses f_height f_known : Int32} {a_kind a_first a_second a_left a_right a_stack : Nat → Int32} {post : Int32 → SY → Prop} {M : Nat → Prop} {B : Nat} {x1 : Int32} (hT : T ≤ 16) (hB2 : B ≤ 256) (hM : ∀ w, M w → w < B) (hci : ci_P T K F G A L R B a_possible a_classOf) (hml : ml_P M B (nI (ct_n M B)) a_model) (kk : ∀ r, cs_P M (wy_n T K F G A L R) (x1 = 0) r → post r (nI T, f_atoms, f_clauses, f_height, nI (ct_n M B), f_known, f_closed, a_kind, a_first, a_second, a_left, a_right, a_literals, a_stack, a_of, a_possible, a_model, a_classOf)) :
    ∀ (d i n : Nat) (x2 : Int32), i + d = ct_n M B → d < n → bs_P M (wy_n T K F G A L R) (x1 = 0) i x2 → wY_classes_19 post x1 (nI T) f_atoms f_clauses f_height (nI (ct_n M B)) f_known f_closed a_kind a_first a_second a_left a_right a_literals a_stack a_of a_possible a_model a_classOf n x2 (nI i)
  | 0, i, n + 1, x2, hi, hn, hb => by
    have lb := ct_le M B
    have e : i = ct_n M B := by omega
    subst e
    refine br_t (nI_le (by omega) (by omega)) (kk _ ?_)
    rcases hb with ⟨b1, b2⟩ | ⟨v, v1, v2, v3, v4⟩
    · exact Or.inl ⟨fun w hw => ct_zero.mp b1 w (hM w hw) hw, b2⟩
    · exact Or.inr ⟨v, v1, v3, fun w hw => v4 w hw (ct_rl hw (hM w hw))⟩
  | d + 1, i, n + 1, x2, hi, hn, hb => by
    have lb := ct_le M B
    obtain ⟨w, w1, w2, w3, w4⟩ := ml_at hml (k := i) (by omega)
    obtain ⟨_, f, hf, hco⟩ := hci w w1
    have en : ct_n (fun t => f t = t) T = wy_n T K F G A L R w := wy_cn (fun t ht => ⟨by have := (hf t ht).1; omega, (hf t ht).2.1⟩) (fun t u ht hu => (hf t ht).2.2 u hu)
    have n16 : wy_n T K F G A L R w ≤ 16 := by rw [← en]; exact Nat.le_trans (ct_le _ _) hT
    have nle : ∀ v, wy_n T K F G A L R v ≤ 16 := fun v => Nat.le_trans (ct_le _ _) hT
    refine br_f (nI_ge (by omega) (by omega)) ⟨T + 1, yk_33 (f := f) hT (show w < 256 by omega) (show i < 256 by omega) w4 (fun t ht => (hf t ht).1) hco ?_ T 0 (T + 1) (by omega) (by omega)⟩
    rw [en]
    have go : ∀ y, bs_P M (wy_n T K F G A L R) (x1 = 0) (i + 1) y → wY_classes_19 post x1 (nI T) f_atoms f_clauses f_height (nI (ct_n M B)) f_known f_closed a_kind a_first a_second a_left a_right a_literals a_stack a_of a_possible a_model a_classOf n y (nI (i + 1)) := fun y hy => yk_19 hT hB2 hM hci hml kk d (i + 1) n y (by omega) (by omega) hy
    have hb' := hb
    rcases hb with ⟨b1, b2⟩ | ⟨v, v1, v2, v3, v4⟩
    · subst b2
      refine br_t (by decide) (go _ (bs_new w2 w3 hb' (fun v hv e => ?_)))
      exact absurd e.symm (fun q => by
        have := nI_pos (n := wy_n T K F G A L R v) (by have := nle v; omega)
        rw [q] at this; exact this (by decide))
    · subst v3
      have nv := nle v
      refine br_f (nI_pos (by omega)) (br_c (fun z => pk_le (wy_n T K F G A L R v) (wy_n T K F G A L R w) (fun y => ?_) (fun y => ?_) rfl rfl (by omega) (by omega)) (fun z => pk_le (wy_n T K F G A L R w) (wy_n T K F G A L R v) (fun y => ?_) (fun y => ?_) rfl rfl (by omega) (by omega)))
      · exact go _ (bs_keep w2 w3 v1 v2 v4 ⟨fun _ => y, fun q => absurd z q⟩)
      · refine go _ (bs_new w2 w3 hb' (fun u hu e => ⟨fun _ => ?_, fun q => absurd z q⟩))
        have := (nI_eq (by omega) (by have := nle u; omega)).mp e
        omega
      · exact go _ (bs_keep w2 w3 v1 v2 v4 ⟨fun q => absurd q z, fun _ => y⟩)
      · refine go _ (bs_new w2 w3 hb' (fun u hu e => ⟨fun q => absurd q z, fun _ => ?_⟩))
        have := (nI_eq (by omega) (by have := nle u; omega)).mp e
        omega
theorem zz_classes {k : Nat} (hd : rl_D T K F G A L R C hs H S) (hx : (en_D T K F G a_kind a_first a_second ∧ aw_D A L R a_left a_right ∧ cw_X C hs a_yes a_no ∧ sw_D H S a_stack ∧ (f_known = 0 ∨ (f_known = 1 ∧ ∃ tg, ac_P (wy_n T K F G A L R) tg (md_P T K F G A L R C hs H S) f_count f_always f_ever f_fewest f_most f_together a_found)))) (hy : (en_D T K F G b_kind b_first b_second ∧ aw_D A L R b_left b_right ∧ cw_Y C hs a_literals ∧ sw_D H S b_stack ∧ (f_closed = 0 ∨ (f_closed = 1 ∧ ci_P T K F G A L R (2 ^ A) a_possible a_classOf)) ∧ (g_known = 0 ∨ (g_known = 1 ∧ ml_P (md_P T K F G A L R C hs H S) (2 ^ A) f_models a_model)))) (v1 : Int32) : wpX_classes (fun r u' => wpY_classes (fun r' v' => r' = r ∧ i_Rel (k + 4) u' v') (nI T, nI A, nI C, nI H, f_models, g_known, f_closed, b_kind, b_first, b_second, b_left, b_right, a_literals, b_stack, a_of, a_possible, a_model, a_classOf) v1) (nI T, nI A, nI C, nI H, f_trail, f_pending, f_known, f_count, f_always, f_ever, f_fewest, f_most, f_askA, f_askB, f_together, a_kind, a_first, a_second, a_left, a_right, a_yes, a_no, a_stack, a_state, a_trailAt, a_trailOld, a_pendingA, a_pendingB, a_found, a_says, a_mark) v1 := by
  have h8 := hd.2.1.1
  have hT := hd.1.1
  have p8 : 2 ^ A ≤ 2 ^ 8 := Nat.pow_le_pow_right (by decide) h8
  unfold wpX_classes
  dsimp only
  rcases ix_c v1 (N := 2) (by omega) with h1 | ⟨j, j1, rfl⟩
  · refine xo_bad (N := 2) h1 (by omega) (br_f (by decide) ?_)
    show wpY_classes _ _ _
    unfold wpY_classes
    exact yo_bad (N := 2) h1 (br_t rfl ⟨rfl, rl_mk hd hx hy⟩)
  refine xo_in (N := 2) j1 (by omega) (br_t rfl ?_)
  refine xk_know hd hx (fun f_trail f_pending f_known f_count f_always f_ever f_fewest f_most f_askA f_askB f_together a_state a_trailAt a_trailOld a_pendingA a_pendingB a_found a_says a_mark tg ek hac => ?_)
  have kY : ∀ r, cs_P (md_P T K F G A L R C hs H S) (wy_n T K F G A L R) (nI j = 0) r → wpY_classes (fun r' v' => r' = r ∧ i_Rel (k + 4) (nI T, nI A, nI C, nI H, f_trail, f_pending, f_known, f_count, f_always, f_ever, f_fewest, f_most, f_askA, f_askB, f_together, a_kind, a_first, a_second, a_left, a_right, a_yes, a_no, a_stack, a_state, a_trailAt, a_trailOld, a_pendingA, a_pendingB, a_found, a_says, a_mark) v') (nI T, nI A, nI C, nI H, f_models, g_known, f_closed, b_kind, b_first, b_second, b_left, b_right, a_literals, b_stack, a_of, a_possible, a_model, a_classOf) (nI j) := fun r hr => by
    unfold wpY_classes
    refine yo_in (N := 2) j1 (by omega) (br_f (by decide) (yk_learn hd hy (fun f_models g_known f_closed a_of a_possible a_model a_classOf eg ec' hci hml => ?_)))
    have em := hml.1
    subst em
    exact ⟨ct_n (md_P T K F G A L R C hs H S) (2 ^ A) + 1, yk_19 (M := md_P T K F G A L R C hs H S) (B := 2 ^ A) hT p8 (fun w hw => hw.1) hci hml (fun r' hr' => ⟨cs_u hr hr', rl_mk hd ⟨hx.1, hx.2.1, hx.2.2.1, hx.2.2.2.1, Or.inr ⟨ek, tg, hac⟩⟩ ⟨hy.1, hy.2.1, hy.2.2.1, hy.2.2.2.1, Or.inr ⟨ec', hci⟩, Or.inr ⟨eg, hml⟩⟩⟩) _ 0 _ (-2) (Nat.zero_add _) (Nat.lt_succ_self _) (Or.inl ⟨rfl, rfl⟩)⟩
  have cb := ct_le (md_P T K F G A L R C hs H S) 256
  obtain ⟨c1, c2, c3, c4, ⟨f, f1, f2, f3, f4⟩, ⟨m, m1, m2, m3, m4⟩, c7⟩ := hac
  refine pk_eq (ct_n (md_P T K F G A L R C hs H S) 256) 0 (fun z => ?_) (fun z => ?_) c1 rfl (by omega) (by omega)
  · exact kY _ (Or.inl ⟨fun w hw => ct_zero.mp z w (md_lt h8 hw) hw, rfl⟩)
  · obtain ⟨w, _, w2, _⟩ := ct_sur (P := md_P T K F G A L R C hs H S) (k := 0) (N := 256) (by omega)
    have nle : ∀ v, wy_n T K F G A L R v ≤ 16 := fun v => Nat.le_trans (ct_le _ _) hT
    refine pk_eq j 0 (fun y => ?_) (fun y => ?_) rfl rfl (by omega) (by omega)
    · have g : ∃ v, md_P T K F G A L R C hs H S v ∧ wy_n T K F G A L R v = f := by
        rcases f4 with e | e
        · have := f3 w w2
          have := nle w
          omega
        · exact e
      obtain ⟨v, v1, v2⟩ := g
      have ez : nI j = 0 := by rw [y]; rfl
      refine kY _ (Or.inr ⟨v, v1, by rw [v2]; exact f1, fun u hu => ⟨fun _ => by rw [v2]; exact f3 u hu, fun q => absurd ez q⟩⟩)
    · have g : ∃ v, md_P T K F G A L R C hs H S v ∧ wy_n T K F G A L R v = m := by
        rcases m4 with e | e
        · have := m3 w w2
          exact ⟨w, w2, by omega⟩
        · exact e
      obtain ⟨v, v1, v2⟩ := g
      have ez : ¬ nI j = 0 := nI_ne0 (by omega) (by omega)
      refine kY _ (Or.inr ⟨v, v1, by rw [v2]; exact m1, fun u hu => ⟨fun q => absurd q ez, fun _ => by rw [v2]; exact m3 u hu⟩⟩)
end
theorem i_vc_classes {k : Nat} {u : SX} {v : SY} (I : i_Rel k u v) (hk : k + 4 ≤ 2048) (v1 : Int32) : wpX_classes (fun r u' => wpY_classes (fun r' v' => r' = r ∧ i_Rel (k + 4) u' v') v v1) u v1 := by
  obtain ⟨T, K, F, G, A, L, R, C, hs, H, S, hd, hX, hY⟩ := I
  refine rl_xe (P := fun u => wpX_classes (fun r u' => wpY_classes (fun r' v' => r' = r ∧ i_Rel (k + 4) u' v') v v1) u v1) hX ?_
  intro f_trail f_pending f_known f_count f_always f_ever f_fewest f_most f_askA f_askB f_together a_kind a_first a_second a_left a_right a_yes a_no a_stack a_state a_trailAt a_trailOld a_pendingA a_pendingB a_found a_says a_mark hx
  refine rl_ye (P := fun v => wpX_classes (fun r u' => wpY_classes (fun r' v' => r' = r ∧ i_Rel (k + 4) u' v') v v1) (nI T, nI A, nI C, nI H, f_trail, f_pending, f_known, f_count, f_always, f_ever, f_fewest, f_most, f_askA, f_askB, f_together, a_kind, a_first, a_second, a_left, a_right, a_yes, a_no, a_stack, a_state, a_trailAt, a_trailOld, a_pendingA, a_pendingB, a_found, a_says, a_mark) v1) hY ?_
  intro f_models g_known f_closed b_kind b_first b_second b_left b_right a_literals b_stack a_of a_possible a_model a_classOf hy
  exact zz_classes hd hx hy v1
end
section
/-! assume, least -/
/-- the atoms at some places of the stack -/
def pl_P (H : Nat) (S : Nat → Nat) (s a : Nat) : Prop := ∃ k, k < H ∧ s.testBit k = true ∧ S k = 2 * a
/-- one of the opposites among them follows -/
def wr_P (T : Nat) (K F G : Nat → Nat) (A : Nat) (L R : Nat → Nat) (H : Nat) (S : Nat → Nat) (s : Nat) : Prop := ∃ k, k < H ∧ s.testBit k = true ∧ S k % 2 = 1 ∧ cc_C T K F G (aw_E A L R (pl_P H S s)) (L (S k / 2)) (R (S k / 2))
theorem aw_lt {T A : Nat} {L R : Nat → Nat} (hA : aw_W T A L R) {P : Nat → Prop} : ∀ x y, aw_E A L R P x y → x < T ∧ y < T := by
  rintro x y ⟨a, a1, _, a3, a4⟩
  have q := hA.2 a a1
  rw [a3, a4]; exact q
section
variable {f_terms f_atoms f_clauses f_depth f_trail f_pending f_known f_count f_always f_ever f_fewest f_most f_askA f_askB f_together : Int32} {a_kind a_first a_second a_left a_right a_yes a_no a_stack a_state a_trailAt a_trailOld a_pendingA a_pendingB a_says a_mark : Nat → Int32} {a_found : Nat → Int64}
variable {f_models g_known f_closed : Int32} {b_kind b_first b_second b_left b_right a_literals b_stack a_of a_possible a_model a_classOf : Nat → Int32}
variable {T : Nat} {K F G : Nat → Nat} {A : Nat} {L R : Nat → Nat} {C : Nat} {hs : Nat → Nat → Prop} {H : Nat} {S : Nat → Nat}
theorem xa_54 {post : Int32 → SX → Prop} {s : Nat} {c nx : Nat → Nat} (hs8 : s < 256) (hT : T ≤ 16) (hA : aw_W T A L R) (hB : aw_D A L R a_left a_right) (hS : sw_W A H S) (hSD : sw_D H S a_stack) (hC : en_C T c nx a_state) (k1 : (∃ k, k < H ∧ s.testBit k = true ∧ S k % 2 = 1 ∧ c (L (S k / 2)) = c (R (S k / 2))) → post 1 (f_terms, f_atoms, f_clauses, nI H, f_trail, f_pending, f_known, f_count, f_always, f_ever, f_fewest, f_most, f_askA, f_askB, f_together, a_kind, a_first, a_second, a_left, a_right, a_yes, a_no, a_stack, a_state, a_trailAt, a_trailOld, a_pendingA, a_pendingB, a_found, a_says, a_mark)) (k0 : ¬ (∃ k, k < H ∧ s.testBit k = true ∧ S k % 2 = 1 ∧ c (L (S k / 2)) = c (R (S k / 2))) → post 0 (f_terms, f_atoms, f_clauses, nI H, f_trail, f_pending, f_known, f_count, f_always, f_ever, f_fewest, f_most, f_askA, f_askB, f_together, a_kind, a_first, a_second, a_left, a_right, a_yes, a_no, a_stack, a_state, a_trailAt, a_trailOld, a_pendingA, a_pendingB, a_found, a_says, a_mark)) :
    ∀ (d i n : Nat), i + d = H → d < n → (∀ k, k < i → s.testBit k = true → S k % 2 = 1 → ¬ c (L (S k / 2)) = c (R (S k / 2))) → wX_assume_54 post (nI s) f_terms f_atoms f_clauses (nI H) f_trail f_pending f_known f_count f_always f_ever f_fewest f_most f_askA f_askB f_together a_kind a_first a_second a_left a_right a_yes a_no a_stack a_state a_trailAt a_trailOld a_pendingA a_pendingB a_found a_says a_mark n (nI i)
  | 0, i, n + 1, hi, hn, hj => by
    have h8 := hS.1
    exact br_t (nI_le (by omega) (by omega)) (k0 (fun ⟨k, q1, q2, q3, q4⟩ => hj k (by omega) q2 q3 q4))
  | d + 1, i, n + 1, hi, hn, hj => by
    have h8 := hS.1
    have a8 := hA.1
    have si := hS.2 i (by omega)
    have ii : vp_in (nI i) 8 := vp_in_nI (by omega) (by decide)
    have rs : a_stack (nI i).toNatClampNeg = nI (S i) := xe_r (by omega) (hSD i (by omega))
    have skip : (s.testBit i = true → S i % 2 = 1 → ¬ c (L (S i / 2)) = c (R (S i / 2))) → wX_assume_54 post (nI s) f_terms f_atoms f_clauses (nI H) f_trail f_pending f_known f_count f_always f_ever f_fewest f_most f_askA f_askB f_together a_kind a_first a_second a_left a_right a_yes a_no a_stack a_state a_trailAt a_trailOld a_pendingA a_pendingB a_found a_says a_mark n (nI (i + 1)) := fun g =>
      xa_54 hs8 hT hA hB hS hSD hC k1 k0 d (i + 1) n (by omega) (by omega) (fun k hk => by
        by_cases z : k = i
        · rw [z]; exact g
        · exact hj k (by omega))
    refine br_f (nI_ge (by omega) (by omega)) ?_
    rw [bw_at (by omega) (by omega), rs, bw_a1 (by omega), bw_s1 (by omega)]
    refine pk_eq (s / 2 ^ i % 2) 0 (fun z => nm_r (nI_1 _) (skip (fun g => ?_))) (fun z => And.intro ii (pk_eq (S i % 2) 0 (fun y => nm_r (nI_1 _) (skip (fun _ g => ?_))) (fun y => And.intro ii (xe_follows hT hA hB (show S i / 2 < A by omega) hC (fun x => ?_) (fun x => ?_))) rfl rfl (by omega) (by omega))) rfl rfl (by omega) (by omega)
    · rw [wt_0.mpr z] at g; exact absurd g (by decide)
    · omega
    · exact br_f (by decide) (k1 ⟨i, by omega, wt_1.mpr (by omega), by omega, x⟩)
    · exact br_t rfl (nm_r (nI_1 _) (skip (fun _ _ => x)))
theorem xa_7 {post : Int32 → SX → Prop} {s : Nat} {s0 : Nat → Int32} (hs8 : s < 256) (hw : en_W T K F G) (hD : en_D T K F G a_kind a_first a_second) (hA : aw_W T A L R) (hB : aw_D A L R a_left a_right) (hS : sw_W A H S) (hSD : sw_D H S a_stack)
    (kk : ∀ (r : Int32) (c nx : Nat → Nat) (W : List (Nat × Int32)) (st ta to pa pb : Nat → Int32), en_M T K F G (fun _ => False) (aw_E A L R (pl_P H S s)) c nx [] st → tr_R [] s0 W st ta to → W.length ≤ 600 → ((r = 1 ∧ wr_P T K F G A L R H S s) ∨ (r = 0 ∧ ¬ wr_P T K F G A L R H S s)) → post r (nI T, f_atoms, f_clauses, nI H, nI W.length, 0, f_known, f_count, f_always, f_ever, f_fewest, f_most, f_askA, f_askB, f_together, a_kind, a_first, a_second, a_left, a_right, a_yes, a_no, a_stack, st, ta, to, pa, pb, a_found, a_says, a_mark)) :
    ∀ (d i n : Nat) (c nx : Nat → Nat) (W : List (Nat × Int32)) (st ta to pa pb : Nat → Int32), i + d = H → d < n → en_M T K F G (fun _ => False) (aw_E A L R (pl_P i S s)) c nx [] st → tr_R [] s0 W st ta to → W.length + 35 * ct_n (fun t => c t = t) T ≤ 600 → wX_assume_7 post (nI s) n (nI i) (nI T) f_atoms f_clauses (nI H) (nI W.length) 0 f_known f_count f_always f_ever f_fewest f_most f_askA f_askB f_together a_kind a_first a_second a_left a_right a_yes a_no a_stack st ta to pa pb a_found a_says a_mark
  | 0, i, n + 1, c, nx, W, st, ta, to, pa, pb, hi, hn, hM, hR, hb => by
    have h8 := hS.1
    have e : i = H := by omega
    subst e
    have iff : (∃ k, k < i ∧ s.testBit k = true ∧ S k % 2 = 1 ∧ c (L (S k / 2)) = c (R (S k / 2))) ↔ wr_P T K F G A L R i S s := by
      constructor
      · rintro ⟨k, q1, q2, q3, q4⟩
        have lr := hA.2 (S k / 2) (by have := hS.2 k q1; omega)
        exact ⟨k, q1, q2, q3, (en_done hw (aw_lt hA) hM lr.1 lr.2).mp q4⟩
      · rintro ⟨k, q1, q2, q3, q4⟩
        have lr := hA.2 (S k / 2) (by have := hS.2 k q1; omega)
        exact ⟨k, q1, q2, q3, (en_done hw (aw_lt hA) hM lr.1 lr.2).mpr q4⟩
    exact br_t (nI_le (by omega) (by omega)) ⟨i + 1, xa_54 hs8 hw.1 hA hB hS hSD hM.2.1 (fun g => kk 1 c nx W st ta to pa pb hM hR (by omega) (Or.inl ⟨rfl, iff.mp g⟩)) (fun g => kk 0 c nx W st ta to pa pb hM hR (by omega) (Or.inr ⟨rfl, fun z => g (iff.mpr z)⟩)) i 0 (i + 1) (by omega) (by omega) (fun k hk => absurd hk (Nat.not_lt_zero k))⟩
  | d + 1, i, n + 1, c, nx, W, st, ta, to, pa, pb, hi, hn, hM, hR, hb => by
    have h8 := hS.1
    have a8 := hA.1
    have si := hS.2 i (by omega)
    have ii : vp_in (nI i) 8 := vp_in_nI (by omega) (by decide)
    have rs : a_stack (nI i).toNatClampNeg = nI (S i) := xe_r (by omega) (hSD i (by omega))
    have skip : (s.testBit i = true → S i % 2 = 1) → wX_assume_7 post (nI s) n (nI (i + 1)) (nI T) f_atoms f_clauses (nI H) (nI W.length) 0 f_known f_count f_always f_ever f_fewest f_most f_askA f_askB f_together a_kind a_first a_second a_left a_right a_yes a_no a_stack st ta to pa pb a_found a_says a_mark := fun g => by
      have eP : pl_P i S s = pl_P (i + 1) S s := funext fun a => propext ⟨fun ⟨k, q1, q2⟩ => ⟨k, by omega, q2⟩, fun ⟨k, q1, q2, q3⟩ => ⟨k, by
        by_cases z : k = i
        · rw [z] at q2 q3
          have := g q2
          omega
        · omega, q2, q3⟩⟩
      rw [eP] at hM
      exact xa_7 hs8 hw hD hA hB hS hSD kk d (i + 1) n c nx W st ta to pa pb (by omega) (by omega) hM hR hb
    refine br_f (nI_ge (by omega) (by omega)) ?_
    rw [bw_at (by omega) (by omega), rs, bw_a1 (by omega), bw_s1 (by omega)]
    refine pk_eq (s / 2 ^ i % 2) 0 (fun z => nm_r (nI_1 _) (skip (fun g => ?_))) (fun z => And.intro ii (pk_eq (S i % 2) 0 (fun y => And.intro ii ?_) (fun y => nm_r (nI_1 _) (skip (fun _ => by omega))) rfl rfl (by omega) (by omega))) rfl rfl (by omega) (by omega)
    · rw [wt_0.mpr z] at g; exact absurd g (by decide)
    · refine xe_equate (E' := aw_E A L R (pl_P (i + 1) S s)) hw hD hA hB (show S i / 2 < A by omega) hM hR hb ?_ ?_ ?_ ?_
      · rintro x y ⟨a, a1, ⟨k, q1, q2⟩, a3⟩
        exact ⟨a, a1, ⟨k, by omega, q2⟩, a3⟩
      · rintro x y ⟨a, a1, ⟨k, q1, q2, q3⟩, a3⟩
        by_cases e : k = i
        · rw [e] at q3
          have ea : a = S i / 2 := by omega
          rw [ea] at a3; exact Or.inr a3
        · exact Or.inl ⟨a, a1, ⟨k, by omega, q2, q3⟩, a3⟩
      · exact ⟨S i / 2, by omega, ⟨i, by omega, wt_1.mpr (by omega), by omega⟩, rfl, rfl⟩
      · intro c' nx' W' st' ta' to' pa' pb' m1 m2 m3
        exact nm_r (nI_1 _) (xa_7 hs8 hw hD hA hB hS hSD kk d (i + 1) n c' nx' W' st' ta' to' pa' pb' (by omega) (by omega) m1 m2 m3)
theorem xa_assume {post : Int32 → SX → Prop} {s : Nat} {s0 : Nat → Int32} {c0 n0 : Nat → Nat} {W : List (Nat × Int32)} (hs8 : s < 256) (hw : en_W T K F G) (hD : en_D T K F G a_kind a_first a_second) (hA : aw_W T A L R) (hB : aw_D A L R a_left a_right) (hS : sw_W A H S) (hSD : sw_D H S a_stack) (hM0 : en_M T K F G (fun _ => False) (fun _ _ => False) c0 n0 [] s0) (hR : tr_R [] s0 W a_state a_trailAt a_trailOld) (hW : W.length ≤ 600)
    (kk : ∀ (r : Int32) (c nx : Nat → Nat) (W : List (Nat × Int32)) (st ta to pa pb : Nat → Int32), en_M T K F G (fun _ => False) (aw_E A L R (pl_P H S s)) c nx [] st → tr_R [] s0 W st ta to → W.length ≤ 600 → ((r = 1 ∧ wr_P T K F G A L R H S s) ∨ (r = 0 ∧ ¬ wr_P T K F G A L R H S s)) → post r (nI T, f_atoms, f_clauses, nI H, nI W.length, 0, f_known, f_count, f_always, f_ever, f_fewest, f_most, f_askA, f_askB, f_together, a_kind, a_first, a_second, a_left, a_right, a_yes, a_no, a_stack, st, ta, to, pa, pb, a_found, a_says, a_mark)) :
    wpX_assume post (nI T, f_atoms, f_clauses, nI H, nI W.length, 0, f_known, f_count, f_always, f_ever, f_fewest, f_most, f_askA, f_askB, f_together, a_kind, a_first, a_second, a_left, a_right, a_yes, a_no, a_stack, a_state, a_trailAt, a_trailOld, a_pendingA, a_pendingB, a_found, a_says, a_mark) (nI s) := by
  unfold wpX_assume
  dsimp only
  have hT := hw.1
  have cn := ct_le (fun t => c0 t = t) T
  have eE : (fun _ _ => False : Nat → Nat → Prop) = aw_E A L R (pl_P 0 S s) := by
    funext x y
    apply propext
    exact ⟨fun e => absurd e id, fun ⟨a, _, ⟨k, k1, _⟩, _⟩ => absurd k1 (Nat.not_lt_zero k)⟩
  rw [eE] at hM0
  refine xe_undo' (W0 := []) rfl hR (by omega) (fun ht => ⟨H + 1, ?_⟩)
  exact xa_7 hs8 hw hD hA hB hS hSD kk H 0 (H + 1) c0 n0 [] s0 a_trailAt a_trailOld a_pendingA a_pendingB (by omega) (by omega) hM0 (tr_R0 ht) (by simp only [List.length_nil]; omega)
theorem bw_or (a b : Nat) : nI a ||| nI b = nI (a ||| b) := by
  apply b_ext
  intro i hi
  rw [b_or, bw_n hi, bw_n hi, bw_n hi, Nat.testBit_or]
theorem ya_4 {f_terms f_atoms f_clauses f_known : Int32} {a_kind a_first a_second a_left a_right a_stack : Nat → Int32} {post : Int32 → Prop} {s : Nat} (hs8 : s < 256) (a8 : A ≤ 8) (hS : sw_W A H S) (hSD : sw_D H S a_stack) (kk : ∀ m, m < 2 ^ A → (∀ a, m.testBit a = true ↔ pl_P H S s a) → post (nI m)) :
    ∀ (d i n m : Nat), i + d = H → d < n → m < 2 ^ A → (∀ a, m.testBit a = true ↔ pl_P i S s a) → wY_atomsAt_4 post (nI s) f_terms f_atoms f_clauses (nI H) f_models f_known f_closed a_kind a_first a_second a_left a_right a_literals a_stack a_of a_possible a_model a_classOf n (nI m) (nI i)
  | 0, i, n + 1, m, hi, hn, hm, hj => by
    have h8 := hS.1
    have e : i = H := by omega
    subst e
    exact br_t (nI_le (by omega) (by omega)) (kk m hm hj)
  | d + 1, i, n + 1, m, hi, hn, hm, hj => by
    have h8 := hS.1
    have si := hS.2 i (by omega)
    have ii : vp_in (nI i) 8 := vp_in_nI (by omega) (by decide)
    have rs : a_stack (nI i).toNatClampNeg = nI (S i) := xe_r (by omega) (hSD i (by omega))
    have e1 : nI (S i) / 2 = nI (S i / 2) := pk_div (a := S i) (d := 2) (by omega) (by omega) (by omega)
    have e2 : nI (S i) - nI (S i) / 2 * 2 = nI (S i % 2) := pk_rem (a := S i) (d := 2) (by omega) (by omega) (by omega)
    have skip : (s.testBit i = true → S i % 2 = 1) → wY_atomsAt_4 post (nI s) f_terms f_atoms f_clauses (nI H) f_models f_known f_closed a_kind a_first a_second a_left a_right a_literals a_stack a_of a_possible a_model a_classOf n (nI m) (nI (i + 1)) := fun g =>
      ya_4 hs8 a8 hS hSD kk d (i + 1) n m (by omega) (by omega) hm (fun a => by
        rw [hj a]
        exact ⟨fun ⟨k, q1, q2⟩ => ⟨k, by omega, q2⟩, fun ⟨k, q1, q2, q3⟩ => ⟨k, by
          by_cases z : k = i
          · rw [z] at q2 q3
            have := g q2
            omega
          · omega, q2, q3⟩⟩)
    refine br_f (nI_ge (by omega) (by omega)) ?_
    rw [bw_at (by omega) (by omega), rs, e2, e1]
    refine pk_eq (s / 2 ^ i % 2) 1 (fun z => And.intro ii (And.intro (by decide) (pk_eq (S i % 2) 0 (fun y => And.intro ii (And.intro (by decide) ?_)) (fun y => nm_r (nI_1 _) (skip (fun _ => by omega))) rfl rfl (by omega) (by omega)))) (fun z => nm_r (nI_1 _) (skip (fun g => absurd (wt_1.mp g) z))) rfl rfl (by omega) (by omega)
    refine nm_r (e' := nI (m ||| 2 ^ (S i / 2))) (by rw [bw_pw _ (by omega), bw_or]) (nm_r (nI_1 _) (ya_4 hs8 a8 hS hSD kk d (i + 1) n _ (by omega) (by omega) ?_ (fun a => ?_)))
    · exact Nat.or_lt_two_pow hm (Nat.pow_lt_pow_right (by decide) (by omega))
    · rw [Nat.testBit_or, Bool.or_eq_true, hj a, Nat.testBit_two_pow, decide_eq_true_eq]
      constructor
      · rintro (⟨k, q1, q2⟩ | e)
        · exact ⟨k, by omega, q2⟩
        · exact ⟨i, by omega, wt_1.mpr z, by omega⟩
      · rintro ⟨k, q1, q2, q3⟩
        by_cases e : k = i
        · rw [e] at q3; exact Or.inr (by omega)
        · exact Or.inl ⟨k, by omega, q2, q3⟩
theorem ya_at {f_terms f_atoms f_clauses f_known : Int32} {a_kind a_first a_second a_left a_right a_stack : Nat → Int32} {post : Int32 → Prop} {s : Nat} (hs8 : s < 256) (a8 : A ≤ 8) (hS : sw_W A H S) (hSD : sw_D H S a_stack) (kk : ∀ m, m < 2 ^ A → (∀ a, m.testBit a = true ↔ pl_P H S s a) → post (nI m)) : wpY_atomsAt post (f_terms, f_atoms, f_clauses, nI H, f_models, f_known, f_closed, a_kind, a_first, a_second, a_left, a_right, a_literals, a_stack, a_of, a_possible, a_model, a_classOf) (nI s) :=
  ⟨H + 1, ya_4 hs8 a8 hS hSD kk H 0 (H + 1) 0 (by omega) (by omega) (Nat.two_pow_pos A) (fun a => by
    rw [Nat.zero_testBit]
    exact ⟨fun e => absurd e (by decide), fun ⟨k, q, _⟩ => absurd q (Nat.not_lt_zero k)⟩)⟩
theorem pl_eq {s m : Nat} (h : ∀ a, m.testBit a = true ↔ pl_P H S s a) : (aw_E A L R (pl_P H S s)) = wy_E A L R m := by
  funext x y
  apply propext
  exact ⟨fun ⟨a, a1, a2, a3⟩ => ⟨a, a1, (h a).mpr a2, a3⟩, fun ⟨a, a1, a2, a3⟩ => ⟨a, a1, (h a).mp a2, a3⟩⟩
theorem xl_32 {post : Int32 → SX → Prop} {c nx : Nat → Nat} (hT : T ≤ 16) (hC : en_C T c nx a_state) {t : Nat} (ht : t < T) (kk : ∀ u, u < T → c u = c t → (∀ v, v < u → ¬ c v = c t) → post (nI u) (f_terms, f_atoms, f_clauses, f_depth, f_trail, f_pending, f_known, f_count, f_always, f_ever, f_fewest, f_most, f_askA, f_askB, f_together, a_kind, a_first, a_second, a_left, a_right, a_yes, a_no, a_stack, a_state, a_trailAt, a_trailOld, a_pendingA, a_pendingB, a_found, a_says, a_mark)) :
    ∀ (d i n : Nat), i + d = t → d < n → (∀ v, v < i → ¬ c v = c t) → wX_least_32 post (nI t) f_terms f_atoms f_clauses f_depth f_trail f_pending f_known f_count f_always f_ever f_fewest f_most f_askA f_askB f_together a_kind a_first a_second a_left a_right a_yes a_no a_stack a_state a_trailAt a_trailOld a_pendingA a_pendingB a_found a_says a_mark n (nI i) := by
  have ct := hC t ht
  intro d
  induction d with
  | zero =>
    intro i n hi hn hj
    obtain ⟨n, rfl⟩ : ∃ m, n = m + 1 := ⟨n - 1, by omega⟩
    have e : i = t := by omega
    subst e
    exact And.intro (xe_in0 (by omega) (by decide)) (And.intro (xe_in0 (by omega) (by decide)) (br_t rfl (kk i ht rfl hj)))
  | succ d ih =>
    intro i n hi hn hj
    obtain ⟨n, rfl⟩ : ∃ m, n = m + 1 := ⟨n - 1, by omega⟩
    have ci := hC i (by omega)
    refine And.intro (xe_in0 (by omega) (by decide)) (And.intro (xe_in0 (by omega) (by decide)) (pk_eq (c i) (c t) (fun z => kk i (by omega) z hj) (fun z => ?_) (xe_r0 (by omega) ci.1) (xe_r0 (by omega) ct.1) (by omega) (by omega)))
    refine nm_r (nI_1 _) (ih (i + 1) n (by omega) (by omega) (fun v hv => ?_))
    by_cases y : v = i
    · rw [y]; exact z
    · exact hj v (by omega)
theorem bw_all {H : Nat} (hH : H ≤ 8) : ((1 : Int32) <<< (nI H &&& 31)) - 1 = nI (2 ^ H - 1) :=
  (by decide +kernel : ∀ H, H < 9 → ((1 : Int32) <<< (nI H &&& 31)) - 1 = nI (2 ^ H - 1)) H (by omega)
theorem zz_least {k : Nat} (hd : rl_D T K F G A L R C hs H S) (hx : (en_D T K F G a_kind a_first a_second ∧ aw_D A L R a_left a_right ∧ cw_X C hs a_yes a_no ∧ sw_D H S a_stack ∧ (f_known = 0 ∨ (f_known = 1 ∧ ∃ tg, ac_P (wy_n T K F G A L R) tg (md_P T K F G A L R C hs H S) f_count f_always f_ever f_fewest f_most f_together a_found)))) (hy : (en_D T K F G b_kind b_first b_second ∧ aw_D A L R b_left b_right ∧ cw_Y C hs a_literals ∧ sw_D H S b_stack ∧ (f_closed = 0 ∨ (f_closed = 1 ∧ ci_P T K F G A L R (2 ^ A) a_possible a_classOf)) ∧ (g_known = 0 ∨ (g_known = 1 ∧ ml_P (md_P T K F G A L R C hs H S) (2 ^ A) f_models a_model)))) (v1 : Int32) : wpX_least (fun r u' => wpY_least (fun r' v' => r' = r ∧ i_Rel (k + 4) u' v') (nI T, nI A, nI C, nI H, f_models, g_known, f_closed, b_kind, b_first, b_second, b_left, b_right, a_literals, b_stack, a_of, a_possible, a_model, a_classOf) v1) (nI T, nI A, nI C, nI H, f_trail, f_pending, f_known, f_count, f_always, f_ever, f_fewest, f_most, f_askA, f_askB, f_together, a_kind, a_first, a_second, a_left, a_right, a_yes, a_no, a_stack, a_state, a_trailAt, a_trailOld, a_pendingA, a_pendingB, a_found, a_says, a_mark) v1 := by
  have h8 := hd.2.1.1
  have hT := hd.1.1
  have hH := hd.2.2.2.1
  have p8 : 2 ^ A ≤ 2 ^ 8 := Nat.pow_le_pow_right (by decide) h8
  have pH : 2 ^ H ≤ 2 ^ 8 := Nat.pow_le_pow_right (by decide) hH
  unfold wpX_least
  dsimp only
  rcases ix_c v1 (N := T) (by omega) with h1 | ⟨t, t1, rfl⟩
  · refine xo_bad h1 (by omega) (br_f (by decide) ?_)
    show wpY_least _ _ _
    unfold wpY_least
    exact yo_bad h1 (br_t rfl ⟨rfl, rl_mk hd hx hy⟩)
  refine xo_in t1 (by omega) (br_t rfl (xe_begin hd.1 hx.1 (fun c0 n0 s0 ta0 to0 pa0 pb0 hM0 => ?_)))
  dsimp only
  rw [bw_all hH]
  refine xa_assume (W := []) (s := 2 ^ H - 1) (by omega) hd.1 hx.1 hd.2.1 hx.2.1 hd.2.2.2 hx.2.2.2.1 hM0 (tr_R0 trivial) (by simp) ?_
  intro r c nx W st ta to pa pb hM hR hW hr
  refine ⟨t + 1, xl_32 hT hM.2.1 t1 (fun u u1 u2 u3 => ?_) t 0 (t + 1) (by omega) (by omega) (fun v hv => absurd hv (Nat.not_lt_zero v))⟩
  show wpY_least _ _ _
  unfold wpY_least
  refine yo_in t1 (by omega) (br_f (by decide) (yk_closeAll hd hy (fun f_closed a_of a_possible a_classOf ec hci => ?_)))
  refine ya_at (s := 255) (by omega) h8 hd.2.2.2 hy.2.2.2.1 (fun m hm hpl => ?_)
  obtain ⟨_, f, hf, hco⟩ := hci m hm
  have ft := hf t t1
  have e16 : ((16 : Int32) * nI m) + nI t = nI (16 * m + t) := by
    rw [show (16 : Int32) * nI m = nI (16 * m) from pk_mul 16 m, nI_add]
  have hpl' : ∀ a, m.testBit a = true ↔ pl_P H S (2 ^ H - 1) a := fun a => by
    rw [hpl a]
    constructor
    · rintro ⟨i, q1, _, q3⟩
      exact ⟨i, q1, by rw [Nat.testBit_two_pow_sub_one, decide_eq_true q1], q3⟩
    · rintro ⟨i, q1, _, q3⟩
      refine ⟨i, q1, ?_, q3⟩
      rw [show (255 : Nat) = 2 ^ 8 - 1 from rfl, Nat.testBit_two_pow_sub_one, decide_eq_true (by omega)]
  rw [pl_eq hpl'] at hM
  have same : ∀ x y, x < T → y < T → (c x = c y ↔ f x = f y) := fun x y hx hy => (en_done hd.1 (wy_lt hd.2.1) hM hx hy).trans ((hf x hx).2.2 y hy).symm
  have eu : f t = u := by
    have q1 := (same u t u1 t1).mp u2
    have q2 : f u = u := by
      have fu := hf u u1
      rcases Nat.lt_or_ge (f u) u with z | z
      · exfalso
        have g := (same (f u) u (by omega) u1).mpr fu.2.1
        exact u3 (f u) z (g.trans u2)
      · have := fu.1; omega
    rw [← q1]; exact q2
  dsimp only
  rw [e16]
  refine And.intro (vp_in_nI (by omega) (by decide)) ⟨?_, ?_⟩
  · exact xe_r (by omega) (by rw [hco t t1, eu])
  · exact rl_mk hd hx ⟨hy.1, hy.2.1, hy.2.2.1, hy.2.2.2.1, Or.inr ⟨ec, hci⟩, hy.2.2.2.2.2⟩
end
theorem i_vc_least {k : Nat} {u : SX} {v : SY} (I : i_Rel k u v) (hk : k + 4 ≤ 2048) (v1 : Int32) : wpX_least (fun r u' => wpY_least (fun r' v' => r' = r ∧ i_Rel (k + 4) u' v') v v1) u v1 := by
  obtain ⟨T, K, F, G, A, L, R, C, hs, H, S, hd, hX, hY⟩ := I
  refine rl_xe (P := fun u => wpX_least (fun r u' => wpY_least (fun r' v' => r' = r ∧ i_Rel (k + 4) u' v') v v1) u v1) hX ?_
  intro f_trail f_pending f_known f_count f_always f_ever f_fewest f_most f_askA f_askB f_together a_kind a_first a_second a_left a_right a_yes a_no a_stack a_state a_trailAt a_trailOld a_pendingA a_pendingB a_found a_says a_mark hx
  refine rl_ye (P := fun v => wpX_least (fun r u' => wpY_least (fun r' v' => r' = r ∧ i_Rel (k + 4) u' v') v v1) (nI T, nI A, nI C, nI H, f_trail, f_pending, f_known, f_count, f_always, f_ever, f_fewest, f_most, f_askA, f_askB, f_together, a_kind, a_first, a_second, a_left, a_right, a_yes, a_no, a_stack, a_state, a_trailAt, a_trailOld, a_pendingA, a_pendingB, a_found, a_says, a_mark) v1) hY ?_
  intro f_models g_known f_closed b_kind b_first b_second b_left b_right a_literals b_stack a_of a_possible a_model a_classOf hy
  exact zz_least hd hx hy v1
end
section
/-! the smallest sets: sizes, ones, isAtoms, isPossible -/
def pc_0 (s : Nat) : Nat → Nat
  | 0 => 0
  | k + 1 => pc_0 s k + s / 2 ^ k % 2
def pc_n (s : Nat) : Nat := pc_0 s 8
theorem pc_t : ∀ s, s < 256 → s ≠ 0 → nI s &&& (nI s - 1) = nI (s &&& (s - 1)) ∧ pc_n (s &&& (s - 1)) + 1 = pc_n s ∧ (s &&& (s - 1)) < s := by decide +kernel
theorem pc_8 : ∀ s, s < 256 → pc_n s ≤ 8 := by decide +kernel
theorem pc_z : ∀ s, s < 256 → pc_n s = 0 → s = 0 := by decide +kernel
theorem pc_H : ∀ H, H < 9 → ∀ s, s < 256 → s < 2 ^ H → pc_n s ≤ H := by decide +kernel
theorem xo_ones0 {post : Int32 → Prop} : ∀ (n s m : Nat), s < 256 → s < n → post (nI (m + pc_n s)) → wX_ones_4 post n (nI m) (nI s)
  | n + 1, s, m, hs, hn, kk => by
    refine pk_eq s 0 (fun z => ?_) (fun z => ?_) rfl rfl (by omega) (by omega)
    · subst z; exact kk
    · have t := pc_t s hs z
      refine nm_r (nI_1 _) (nm_r t.1 (xo_ones0 n (s &&& (s - 1)) (m + 1) (by omega) (by omega) ?_))
      rw [← t.2.1] at kk
      rw [show m + 1 + pc_n (s &&& (s - 1)) = m + (pc_n (s &&& (s - 1)) + 1) by omega]
      exact kk
theorem xo_ones {post : Int32 → Prop} {s : Nat} (hs : s < 256) (kk : post (nI (pc_n s))) : wpX_ones post (nI s) :=
  ⟨s + 1, xo_ones0 (s + 1) s 0 hs (by omega) (by rw [Nat.zero_add]; exact kk)⟩
theorem ys_size0 {post : Int32 → Prop} {s : Nat} (hs : s < 256) (kk : post (nI (pc_n s))) : ∀ (d i n : Nat), i + d = 8 → d < n → wY_size_4 post (nI s) n (nI (pc_0 s i)) (nI i)
  | 0, i, n + 1, hi, hn => by
    have e : i = 8 := by omega
    subst e
    exact br_t (Int32.le_refl _) kk
  | d + 1, i, n + 1, hi, hn => by
    refine br_f (nI_ge (a := i) (b := 8) (by omega) (by omega)) ?_
    rw [bw_at (by omega) (by omega), nI_add]
    exact nm_e (nm_r (nI_1 _) (ys_size0 hs kk d (i + 1) n (by omega) (by omega)))
theorem ys_size {post : Int32 → Prop} {s : Nat} (hs : s < 256) (kk : post (nI (pc_n s))) : wpY_size post (nI s) :=
  ⟨9, ys_size0 hs kk 8 0 9 (by omega) (by omega)⟩
/-- the least set below N by size and then by value -/
def bq_P (N : Nat) (Q : Nat → Prop) (r : Int32) : Prop := ((∀ s, s < N → ¬ Q s) ∧ r = -2) ∨ ∃ s, s < N ∧ Q s ∧ r = nI s ∧ ∀ x, x < N → Q x → pc_n s < pc_n x ∨ (pc_n s = pc_n x ∧ s ≤ x)
theorem bq_u {N : Nat} {Q : Nat → Prop} {r r' : Int32} (h : bq_P N Q r) (h' : bq_P N Q r') : r' = r := by
  rcases h with ⟨a, e⟩ | ⟨s, s1, s2, e, s3⟩ <;> rcases h' with ⟨a', e'⟩ | ⟨s', s1', s2', e', s3'⟩
  · rw [e, e']
  · exact absurd s2' (a s' s1')
  · exact absurd s2 (a' s s1)
  · have g1 := s3 s' s1' s2'
    have g2 := s3' s s1 s2
    have eq : s' = s := by omega
    rw [e, e', eq]
theorem bq_0 {Q : Nat → Prop} : bq_P 0 Q (-2) := Or.inl ⟨fun s hs => absurd hs (Nat.not_lt_zero s), rfl⟩
theorem bq_no {N : Nat} {Q : Nat → Prop} {r : Int32} (h : bq_P N Q r) (hn : ¬ Q N) : bq_P (N + 1) Q r := by
  rcases h with ⟨a, e⟩ | ⟨s, s1, s2, e, s3⟩
  · refine Or.inl ⟨fun x hx => ?_, e⟩
    by_cases z : x = N
    · rw [z]; exact hn
    · exact a x (by omega)
  · refine Or.inr ⟨s, by omega, s2, e, fun x hx hq => ?_⟩
    by_cases z : x = N
    · rw [z] at hq; exact absurd hq hn
    · exact s3 x (by omega) hq
theorem bq_keep {N s : Nat} {Q : Nat → Prop} (hN : N ≤ 256) (h : bq_P N Q (nI s)) (hs : s < 256) (hl : pc_n s ≤ pc_n N) : bq_P (N + 1) Q (nI s) := by
  rcases h with ⟨a, e⟩ | ⟨s', s1, s2, e, s3⟩
  · exact absurd e (fun q => by
      have := nI_pos (n := s) (by omega)
      rw [q] at this; exact this (by decide))
  · have es := (nI_eq (a := s) (b := s') (by omega) (by omega)).mp e
    subst es
    refine Or.inr ⟨s, by omega, s2, rfl, fun x hx hq => ?_⟩
    by_cases z : x = N
    · rw [z]; omega
    · exact s3 x (by omega) hq
theorem bq_new1 {N : Nat} {Q : Nat → Prop} (h : bq_P N Q (-2)) (hN : N ≤ 256) (hq : Q N) : bq_P (N + 1) Q (nI N) := by
  rcases h with ⟨a, e⟩ | ⟨s, s1, s2, e, s3⟩
  · refine Or.inr ⟨N, by omega, hq, rfl, fun x hx hx2 => ?_⟩
    by_cases z : x = N
    · rw [z]; omega
    · exact absurd hx2 (a x (by omega))
  · exact absurd e.symm (fun q => by
      have := nI_pos (n := s) (by omega)
      rw [q] at this; exact this (by decide))
theorem bq_new2 {N s : Nat} {Q : Nat → Prop} (h : bq_P N Q (nI s)) (hs : s < 256) (hN : N ≤ 256) (hq : Q N) (hl : pc_n N < pc_n s) : bq_P (N + 1) Q (nI N) := by
  rcases h with ⟨a, e⟩ | ⟨s', s1, s2, e, s3⟩
  · exact absurd e (fun q => by
      have := nI_pos (n := s) (by omega)
      rw [q] at this; exact this (by decide))
  · have es := (nI_eq (a := s) (b := s') (by omega) (by omega)).mp e
    subst es
    refine Or.inr ⟨N, by omega, hq, rfl, fun x hx hx2 => ?_⟩
    by_cases z : x = N
    · rw [z]; omega
    · have := s3 x (by omega) hx2
      omega
theorem bq_r {N : Nat} {Q : Nat → Prop} {r : Int32} (h : bq_P N Q r) : r = -2 ∨ ∃ s, s < N ∧ r = nI s := by
  rcases h with ⟨a, e⟩ | ⟨s, s1, s2, e, s3⟩
  · exact Or.inl e
  · exact Or.inr ⟨s, s1, e⟩
/-- what asks why -/
def wq_P (T : Nat) (K F G : Nat → Nat) (A : Nat) (L R : Nat → Nat) (H : Nat) (S : Nat → Nat) (t u s : Nat) : Prop := (∀ k, k < H → s.testBit k = true → S k % 2 = 0) ∧ cc_C T K F G (aw_E A L R (pl_P H S s)) t u
def pb_P (T : Nat) (K F G : Nat → Nat) (A : Nat) (L R : Nat → Nat) (H : Nat) (S : Nat → Nat) (s w : Nat) : Prop := ps_P T K F G A L R w ∧ ∀ k, k < H → s.testBit k = true → wy_h w (S k)
theorem wb_set (P : Nat → Prop) : ∀ A : Nat, ∃ w, w < 2 ^ A ∧ ∀ a, a < A → (w.testBit a = true ↔ P a)
  | 0 => ⟨0, by decide, fun a ha => absurd ha (Nat.not_lt_zero a)⟩
  | A + 1 => by
    obtain ⟨w, w1, w2⟩ := wb_set P A
    have p2 : 2 ^ (A + 1) = 2 * 2 ^ A := by rw [Nat.pow_succ]; omega
    rcases Classical.em (P A) with h | h
    · refine ⟨w + 2 ^ A, by omega, fun a ha => ?_⟩
      rw [wp_tb w1, Bool.or_eq_true, decide_eq_true_eq]
      by_cases z : a = A
      · rw [z]; exact ⟨fun _ => h, fun _ => Or.inr rfl⟩
      · rw [w2 a (by omega)]; exact ⟨fun q => q.elim id (fun y => absurd y z), Or.inl⟩
    · refine ⟨w, by omega, fun a ha => ?_⟩
      by_cases z : a = A
      · rw [z, Nat.testBit_lt_two_pow w1]; exact ⟨fun e => absurd e (by decide), fun e => absurd e h⟩
      · exact w2 a (by omega)
section
variable {f_terms f_atoms f_clauses f_depth f_trail f_pending f_known f_count f_always f_ever f_fewest f_most f_askA f_askB f_together : Int32} {a_kind a_first a_second a_left a_right a_yes a_no a_stack a_state a_trailAt a_trailOld a_pendingA a_pendingB a_says a_mark : Nat → Int32} {a_found : Nat → Int64}
variable {f_models g_known f_closed : Int32} {b_kind b_first b_second b_left b_right a_literals b_stack a_of a_possible a_model a_classOf : Nat → Int32}
variable {T : Nat} {K F G : Nat → Nat} {A : Nat} {L R : Nat → Nat} {C : Nat} {hs : Nat → Nat → Prop} {H : Nat} {S : Nat → Nat}
/-- no possible way has the literals just if one of the opposites follows -/
theorem wr_iff (hS : sw_W A H S) {s : Nat} : wr_P T K F G A L R H S s ↔ ¬ ∃ w, w < 2 ^ A ∧ pb_P T K F G A L R H S s w := by
  constructor
  · rintro ⟨k, k1, k2, k3, k4⟩ ⟨w, w1, w2, w3⟩
    have sk := hS.2 k k1
    have up : wy_C T K F G A L R w (L (S k / 2)) (R (S k / 2)) := cc_mono (fun x y ⟨a, a1, ⟨j, j1, j2, j3⟩, a3⟩ => by
      have q := w3 j j1 j2
      rw [j3, wh_e] at q
      exact ⟨a, a1, q, a3⟩) k4
    have b := w2 (S k / 2) (by omega) up
    have q := (wh_p1 k3).mp (w3 k k1 k2)
    rw [b] at q; exact absurd q (by decide)
  · intro h
    refine Classical.byContradiction (fun nw => h ?_)
    obtain ⟨w, w1, w2⟩ := wb_set (fun a => cc_C T K F G (aw_E A L R (pl_P H S s)) (L a) (R a)) A
    have back : ∀ x y, wy_E A L R w x y → cc_C T K F G (aw_E A L R (pl_P H S s)) x y := by
      rintro x y ⟨b, b1, b2, b3, b4⟩
      rw [b3, b4]; exact (w2 b b1).mp b2
    refine ⟨w, w1, fun a ha hc => (w2 a ha).mpr (cc_le back hc), fun k k1 k2 => ?_⟩
    · have sk := hS.2 k k1
      rcases Nat.mod_two_eq_zero_or_one (S k) with p | p
      · exact (wh_p0 p).mpr ((w2 (S k / 2) (by omega)).mpr (cc_in ⟨S k / 2, by omega, ⟨k, k1, k2, by omega⟩, rfl, rfl⟩))
      · refine (wh_p1 p).mpr ?_
        cases hb : w.testBit (S k / 2)
        · rfl
        · exact absurd ⟨k, k1, k2, p, (w2 (S k / 2) (by omega)).mp hb⟩ nw
theorem yi_at {f_terms f_atoms f_clauses f_known : Int32} {a_kind a_first a_second a_left a_right a_stack : Nat → Int32} {post : Int32 → Prop} {s : Nat} (hs8 : s < 256) (a8 : A ≤ 8) (hS : sw_W A H S) (hSD : sw_D H S a_stack) (k1 : (∀ k, k < H → s.testBit k = true → S k % 2 = 0) → post 1) (k0 : ¬ (∀ k, k < H → s.testBit k = true → S k % 2 = 0) → post 0) :
    ∀ (d i n : Nat), i + d = H → d < n → (∀ k, k < i → s.testBit k = true → S k % 2 = 0) → wY_isAtoms_2 post (nI s) f_terms f_atoms f_clauses (nI H) f_models f_known f_closed a_kind a_first a_second a_left a_right a_literals a_stack a_of a_possible a_model a_classOf n (nI i)
  | 0, i, n + 1, hi, hn, hj => by
    have h8 := hS.1
    exact br_t (nI_le (by omega) (by omega)) (k1 (fun k hk => hj k (by omega)))
  | d + 1, i, n + 1, hi, hn, hj => by
    have h8 := hS.1
    have si := hS.2 i (by omega)
    have ii : vp_in (nI i) 8 := vp_in_nI (by omega) (by decide)
    have rs : a_stack (nI i).toNatClampNeg = nI (S i) := xe_r (by omega) (hSD i (by omega))
    have e2 : nI (S i) - nI (S i) / 2 * 2 = nI (S i % 2) := pk_rem (a := S i) (d := 2) (by omega) (by omega) (by omega)
    have skip : (s.testBit i = true → S i % 2 = 0) → wY_isAtoms_2 post (nI s) f_terms f_atoms f_clauses (nI H) f_models f_known f_closed a_kind a_first a_second a_left a_right a_literals a_stack a_of a_possible a_model a_classOf n (nI (i + 1)) := fun g =>
      yi_at hs8 a8 hS hSD k1 k0 d (i + 1) n (by omega) (by omega) (fun k hk => by
        by_cases z : k = i
        · rw [z]; exact g
        · exact hj k (by omega))
    refine br_f (nI_ge (by omega) (by omega)) ?_
    rw [bw_at (by omega) (by omega), rs, e2]
    refine pk_eq (s / 2 ^ i % 2) 1 (fun z => And.intro ii (And.intro (by decide) (pk_eq (S i % 2) 1 (fun y => k0 (fun g => ?_)) (fun y => nm_r (nI_1 _) (skip (fun _ => by omega))) rfl rfl (by omega) (by omega)))) (fun z => nm_r (nI_1 _) (skip (fun g => absurd (wt_1.mp g) z))) rfl rfl (by omega) (by omega)
    have := g i (by omega) (wt_1.mpr z)
    omega
theorem yp_22 {f_terms f_atoms f_clauses f_known : Int32} {a_kind a_first a_second a_left a_right a_stack : Nat → Int32} {post : Int32 → Prop} {J2 : Int32 → Prop} {s w : Nat} (hs8 : s < 256) (hw8 : w < 256) (a8 : A ≤ 8) (hS : sw_W A H S) (hSD : sw_D H S a_stack) (k1 : pb_P T K F G A L R H S s w → post 1) (k0 : ¬ pb_P T K F G A L R H S s w → J2 (nI (w + 1))) :
    ∀ (d i n : Nat) (x3 : Int32), i + d = H → d < n → ((x3 = 1 ∧ ps_P T K F G A L R w ∧ ∀ k, k < i → s.testBit k = true → wy_h w (S k)) ∨ (x3 = 0 ∧ ¬ pb_P T K F G A L R H S s w)) → wY_isPossible_22 post J2 (nI s) (nI w) f_terms f_atoms f_clauses (nI H) f_models f_known f_closed a_kind a_first a_second a_left a_right a_literals a_stack a_of a_possible a_model a_classOf n x3 (nI i)
  | 0, i, n + 1, x3, hi, hn, hj => by
    have h8 := hS.1
    refine br_t (nI_le (by omega) (by omega)) ?_
    rcases hj with ⟨rfl, j1, j2⟩ | ⟨rfl, j1⟩
    · exact br_f (by decide) (k1 ⟨j1, fun k hk => j2 k (by omega)⟩)
    · exact br_t rfl (nm_r (nI_1 _) (k0 j1))
  | d + 1, i, n + 1, x3, hi, hn, hj => by
    have h8 := hS.1
    have si := hS.2 i (by omega)
    have ii : vp_in (nI i) 8 := vp_in_nI (by omega) (by decide)
    have rs : a_stack (nI i).toNatClampNeg = nI (S i) := xe_r (by omega) (hSD i (by omega))
    refine br_f (nI_ge (by omega) (by omega)) ?_
    rcases hj with ⟨rfl, j1, j2⟩ | ⟨rfl, j1⟩
    · refine br_f (by decide) ?_
      rw [bw_at (by omega) (by omega), rs]
      have more : (s.testBit i = true → wy_h w (S i)) → wY_isPossible_22 post J2 (nI s) (nI w) f_terms f_atoms f_clauses (nI H) f_models f_known f_closed a_kind a_first a_second a_left a_right a_literals a_stack a_of a_possible a_model a_classOf n 1 (nI (i + 1)) := fun g =>
        yp_22 hs8 hw8 a8 hS hSD k1 k0 d (i + 1) n 1 (by omega) (by omega) (Or.inl ⟨rfl, j1, fun k hk => by
          by_cases z : k = i
          · rw [z]; exact g
          · exact j2 k (by omega)⟩)
      refine pk_eq (s / 2 ^ i % 2) 0 (fun z => nm_r (nI_1 _) (more (fun g => ?_))) (fun z => And.intro ii (yh_in hw8 (by omega) (fun y => ?_) (fun y => ?_))) rfl rfl (by omega) (by omega)
      · rw [wt_0.mpr z] at g; exact absurd g (by decide)
      · exact br_f (by decide) (nm_r (nI_1 _) (more (fun _ => y)))
      · exact br_t rfl (nm_r (nI_1 _) (yp_22 hs8 hw8 a8 hS hSD k1 k0 d (i + 1) n 0 (by omega) (by omega) (Or.inr ⟨rfl, fun g => y (g.2 i (by omega) (wt_1.mpr (by omega)))⟩)))
    · exact br_t rfl (br_t rfl (nm_r (nI_1 _) (k0 j1)))
theorem yp_2 {f_terms f_clauses f_known : Int32} {a_kind a_first a_second a_left a_right a_stack : Nat → Int32} {post : Int32 → Prop} {s : Nat} (hs8 : s < 256) (a8 : A ≤ 8) (hS : sw_W A H S) (hSD : sw_D H S a_stack) (hci : ci_P T K F G A L R (2 ^ A) a_possible a_classOf) (k1 : (∃ w, w < 2 ^ A ∧ pb_P T K F G A L R H S s w) → post 1) (k0 : ¬ (∃ w, w < 2 ^ A ∧ pb_P T K F G A L R H S s w) → post 0) :
    ∀ (d i n : Nat), i + d = 2 ^ A → d < n → (∀ w, w < i → ¬ pb_P T K F G A L R H S s w) → wY_isPossible_2 post (nI s) f_terms (nI A) f_clauses (nI H) f_models f_known f_closed a_kind a_first a_second a_left a_right a_literals a_stack a_of a_possible a_model a_classOf n (nI i)
  | 0, i, n + 1, hi, hn, hj => by
    have p8 : 2 ^ A ≤ 2 ^ 8 := Nat.pow_le_pow_right (by decide) a8
    refine br_t (by rw [bw_pw A (by omega)]; exact nI_le (by omega) (by omega)) (k0 (fun ⟨w, w1, w2⟩ => hj w (by omega) w2))
  | d + 1, i, n + 1, hi, hn, hj => by
    have p8 : 2 ^ A ≤ 2 ^ 8 := Nat.pow_le_pow_right (by decide) a8
    refine br_f (by rw [bw_pw A (by omega)]; exact nI_ge (by omega) (by omega)) (And.intro (vp_in_nI (by omega) (by decide)) ?_)
    have next : ¬ pb_P T K F G A L R H S s i → wY_isPossible_2 post (nI s) f_terms (nI A) f_clauses (nI H) f_models f_known f_closed a_kind a_first a_second a_left a_right a_literals a_stack a_of a_possible a_model a_classOf n (nI (i + 1)) := fun g =>
      yp_2 hs8 a8 hS hSD hci k1 k0 d (i + 1) n (by omega) (by omega) (fun w hw => by
        by_cases z : w = i
        · rw [z]; exact g
        · exact hj w (by omega))
    rcases (hci i (by omega)).1 with ⟨p1, p2⟩ | ⟨p1, p2⟩
    · exact nm_r (e' := 1) (xe_r (by omega) p2) ⟨H + 1, yp_22 hs8 (by omega) a8 hS hSD (fun g => k1 ⟨i, by omega, g⟩) next H 0 (H + 1) 1 (by omega) (by omega) (Or.inl ⟨rfl, p1, fun k hk => absurd hk (Nat.not_lt_zero k)⟩)⟩
    · exact nm_r (e' := 0) (xe_r (by omega) p2) ⟨H + 1, yp_22 (K := K) (F := F) (G := G) (T := T) (L := L) (R := R) hs8 (by omega) a8 hS hSD (fun g => k1 ⟨i, by omega, g⟩) next H 0 (H + 1) 0 (by omega) (by omega) (Or.inr ⟨rfl, fun g => p1 g.1⟩)⟩
end
end
section
/-! why, blame -/
section
variable {f_terms f_atoms f_clauses f_depth f_trail f_pending f_known f_count f_always f_ever f_fewest f_most f_askA f_askB f_together : Int32} {a_kind a_first a_second a_left a_right a_yes a_no a_stack a_state a_trailAt a_trailOld a_pendingA a_pendingB a_says a_mark : Nat → Int32} {a_found : Nat → Int64}
variable {f_models g_known f_closed : Int32} {b_kind b_first b_second b_left b_right a_literals b_stack a_of a_possible a_model a_classOf : Nat → Int32}
variable {T : Nat} {K F G : Nat → Nat} {A : Nat} {L R : Nat → Nat} {C : Nat} {hs : Nat → Nat → Prop} {H : Nat} {S : Nat → Nat}
theorem xw_mask {s m : Nat} (hs : s < 2 ^ H) (hm : ∀ k, m.testBit k = true ↔ (k < H ∧ S k % 2 = 0)) (hH : H ≤ 8) : (nI s &&& (nI m ^^^ (-1))) = 0 ↔ ∀ k, k < H → s.testBit k = true → S k % 2 = 0 := by
  rw [xb_z]
  constructor
  · intro h k hk hb
    have g := h k (by omega)
    rw [b_and, b_xor, b_m1 k (by omega), bw_n (by omega), bw_n (by omega), hb, Bool.true_and, Bool.xor_true] at g
    have g2 : m.testBit k = true := by
      cases hb2 : m.testBit k
      · rw [hb2] at g; exact absurd g (by decide)
      · rfl
    exact ((hm k).mp g2).2
  · intro h i hi
    rw [b_and, b_xor, b_m1 i hi, bw_n hi, bw_n hi, Bool.xor_true]
    cases hb : s.testBit i
    · rfl
    · have iH : i < H := by
        refine Classical.byContradiction (fun g => ?_)
        rw [Nat.testBit_lt_two_pow (Nat.lt_of_lt_of_le hs (Nat.pow_le_pow_right (by decide) (by omega)))] at hb
        exact absurd hb (by decide)
      rw [(hm i).mpr ⟨iH, h i iH hb⟩]; rfl
theorem xw_82 {post : Int32 → SX → Prop} {J70 : Int32 → Int32 → Int32 → Int32 → Int32 → Int32 → Int32 → Int32 → Int32 → Int32 → Int32 → Int32 → Int32 → Int32 → Int32 → Int32 → (Nat → Int32) → (Nat → Int32) → (Nat → Int32) → (Nat → Int32) → (Nat → Int32) → (Nat → Int32) → (Nat → Int32) → (Nat → Int32) → (Nat → Int32) → (Nat → Int32) → (Nat → Int32) → (Nat → Int32) → (Nat → Int32) → (Nat → Int64) → (Nat → Int32) → (Nat → Int32) → Prop} {t u m z : Nat} {s0 : Nat → Int32} {c0 n0 : Nat → Nat} (hz : z ≤ 8) (ht : t < T) (hu : u < T) (hw : en_W T K F G) (hD : en_D T K F G a_kind a_first a_second) (hA : aw_W T A L R) (hB : aw_D A L R a_left a_right) (hS : sw_W A H S) (hSD : sw_D H S a_stack) (hM0 : en_M T K F G (fun _ => False) (fun _ _ => False) c0 n0 [] s0) (hm : ∀ k, m.testBit k = true ↔ (k < H ∧ S k % 2 = 0))
    (kf : ∀ (s : Nat) (W : List (Nat × Int32)) (st ta to pa pb : Nat → Int32), s < 2 ^ H → (wq_P T K F G A L R H S t u) s → pc_n s = z → (∀ x, x < s → (wq_P T K F G A L R H S t u) x → pc_n x ≠ z) → post (nI s) (nI T, f_atoms, f_clauses, nI H, nI W.length, 0, f_known, f_count, f_always, f_ever, f_fewest, f_most, f_askA, f_askB, f_together, a_kind, a_first, a_second, a_left, a_right, a_yes, a_no, a_stack, st, ta, to, pa, pb, a_found, a_says, a_mark))
    (kn : ∀ (W : List (Nat × Int32)) (st ta to pa pb : Nat → Int32), (∀ x, x < 2 ^ H → (wq_P T K F G A L R H S t u) x → pc_n x ≠ z) → tr_R [] s0 W st ta to → W.length ≤ 600 → J70 (nI (z + 1)) (nI T) f_atoms f_clauses (nI H) (nI W.length) 0 f_known f_count f_always f_ever f_fewest f_most f_askA f_askB f_together a_kind a_first a_second a_left a_right a_yes a_no a_stack st ta to pa pb a_found a_says a_mark) :
    ∀ (d i n : Nat) (W : List (Nat × Int32)) (st ta to pa pb : Nat → Int32), i + d = 2 ^ H → d < n → tr_R [] s0 W st ta to → W.length ≤ 600 → (∀ x, x < i → (wq_P T K F G A L R H S t u) x → pc_n x ≠ z) → wX_why_82 post J70 (nI t) (nI u) (nI m) (nI z) n (nI i) (nI T) f_atoms f_clauses (nI H) (nI W.length) 0 f_known f_count f_always f_ever f_fewest f_most f_askA f_askB f_together a_kind a_first a_second a_left a_right a_yes a_no a_stack st ta to pa pb a_found a_says a_mark
  | 0, i, n + 1, W, st, ta, to, pa, pb, hi, hn, hR, hW, hj => by
    have h8 := hS.1
    have pH : 2 ^ H ≤ 2 ^ 8 := Nat.pow_le_pow_right (by decide) h8
    refine br_t (by rw [bw_pw H (by omega)]; exact nI_le (by omega) (by omega)) (nm_r (nI_1 _) (kn W st ta to pa pb (fun x hx => hj x (by omega)) hR hW))
  | d + 1, i, n + 1, W, st, ta, to, pa, pb, hi, hn, hR, hW, hj => by
    have h8 := hS.1
    have hT := hw.1
    have pH : 2 ^ H ≤ 2 ^ 8 := Nat.pow_le_pow_right (by decide) h8
    have pc := pc_8 i (by omega)
    have next : ∀ (W : List (Nat × Int32)) (st ta to pa pb : Nat → Int32), tr_R [] s0 W st ta to → W.length ≤ 600 → ((wq_P T K F G A L R H S t u) i → pc_n i ≠ z) → wX_why_82 post J70 (nI t) (nI u) (nI m) (nI z) n (nI (i + 1)) (nI T) f_atoms f_clauses (nI H) (nI W.length) 0 f_known f_count f_always f_ever f_fewest f_most f_askA f_askB f_together a_kind a_first a_second a_left a_right a_yes a_no a_stack st ta to pa pb a_found a_says a_mark := fun W st ta to pa pb hR hW g =>
      xw_82 hz ht hu hw hD hA hB hS hSD hM0 hm kf kn d (i + 1) n W st ta to pa pb (by omega) (by omega) hR hW (fun x hx => by
        by_cases y : x = i
        · rw [y]; exact g
        · exact hj x (by omega))
    refine br_f (by rw [bw_pw H (by omega)]; exact nI_ge (by omega) (by omega)) (xo_ones (by omega) (pk_eq (pc_n i) z (fun y => ?_) (fun y => ?_) rfl rfl (by omega) (by omega)))
    · have mk := xw_mask (S := S) (s := i) (show i < 2 ^ H by omega) hm h8
      refine br_c (fun x => ?_) (fun x => nm_r (nI_1 _) (next W st ta to pa pb hR hW (fun g => absurd (mk.mpr g.1) x)))
      refine xa_assume (W := W) (s := i) (by omega) hw hD hA hB hS hSD hM0 hR hW ?_
      intro r c nx W' st' ta' to' pa' pb' hM hR' hW' _
      have ct := hM.2.1 t ht
      have cu := hM.2.1 u hu
      have iff := en_done hw (aw_lt hA) hM ht hu
      refine And.intro (xe_in0 (by omega) (by decide)) (And.intro (xe_in0 (by omega) (by decide)) (pk_eq (c t) (c u) (fun v => ?_) (fun v => ?_) (xe_r0 (by omega) ct.1) (xe_r0 (by omega) cu.1) (by omega) (by omega)))
      · exact kf i W' st' ta' to' pa' pb' (by omega) ⟨mk.mp x, iff.mp v⟩ y hj
      · exact nm_r (nI_1 _) (next W' st' ta' to' pa' pb' hR' hW' (fun g => absurd (iff.mpr g.2) v))
    · exact nm_r (nI_1 _) (next W st ta to pa pb hR hW (fun _ => y))
theorem xw_70 {post : Int32 → SX → Prop} {t u m : Nat} {s0 : Nat → Int32} {c0 n0 : Nat → Nat} (ht : t < T) (hu : u < T) (hw : en_W T K F G) (hD : en_D T K F G a_kind a_first a_second) (hA : aw_W T A L R) (hB : aw_D A L R a_left a_right) (hS : sw_W A H S) (hSD : sw_D H S a_stack) (hM0 : en_M T K F G (fun _ => False) (fun _ _ => False) c0 n0 [] s0) (hm : ∀ k, m.testBit k = true ↔ (k < H ∧ S k % 2 = 0))
    (kk : ∀ (r : Int32) (W : List (Nat × Int32)) (st ta to pa pb : Nat → Int32), bq_P (2 ^ H) (wq_P T K F G A L R H S t u) r → post r (nI T, f_atoms, f_clauses, nI H, nI W.length, 0, f_known, f_count, f_always, f_ever, f_fewest, f_most, f_askA, f_askB, f_together, a_kind, a_first, a_second, a_left, a_right, a_yes, a_no, a_stack, st, ta, to, pa, pb, a_found, a_says, a_mark)) :
    ∀ (d z n : Nat) (W : List (Nat × Int32)) (st ta to pa pb : Nat → Int32), z + d = H + 1 → d < n → tr_R [] s0 W st ta to → W.length ≤ 600 → (∀ x, x < 2 ^ H → (wq_P T K F G A L R H S t u) x → z ≤ pc_n x) → wX_why_70 post (nI t) (nI u) (nI m) n (nI z) (nI T) f_atoms f_clauses (nI H) (nI W.length) 0 f_known f_count f_always f_ever f_fewest f_most f_askA f_askB f_together a_kind a_first a_second a_left a_right a_yes a_no a_stack st ta to pa pb a_found a_says a_mark
  | 0, z, n + 1, W, st, ta, to, pa, pb, hi, hn, hR, hW, hj => by
    have h8 := hS.1
    have pH : 2 ^ H ≤ 2 ^ 8 := Nat.pow_le_pow_right (by decide) h8
    refine br_t (nI_lt (by omega) (by omega)) (kk _ W st ta to pa pb (Or.inl ⟨fun x hx hq => ?_, rfl⟩))
    have a := hj x hx hq
    have b := pc_H H (by omega) x (by omega) hx
    omega
  | d + 1, z, n + 1, W, st, ta, to, pa, pb, hi, hn, hR, hW, hj => by
    have h8 := hS.1
    refine br_f (nI_nlt (by omega) (by omega)) ⟨2 ^ H + 1, xw_82 (by omega) ht hu hw hD hA hB hS hSD hM0 hm ?_ ?_ (2 ^ H) 0 (2 ^ H + 1) W st ta to pa pb (by omega) (by omega) hR hW (fun x hx => absurd hx (Nat.not_lt_zero x))⟩
    · intro s W st ta to pa pb s1 s2 s3 s4
      refine kk _ W st ta to pa pb (Or.inr ⟨s, s1, s2, rfl, fun x hx hq => ?_⟩)
      have a := hj x hx hq
      rcases Nat.lt_or_ge x s with y | y
      · have := s4 x y hq; omega
      · omega
    · intro W st ta to pa pb g1 g2 g3
      refine xw_70 ht hu hw hD hA hB hS hSD hM0 hm kk d (z + 1) n W st ta to pa pb (by omega) (by omega) g2 g3 (fun x hx hq => ?_)
      have a := hj x hx hq
      have b := g1 x hx hq
      omega
theorem xw_33 {post : Int32 → SX → Prop} {t u : Nat} {c0 n0 : Nat → Nat} (ht : t < T) (hu : u < T) (hw : en_W T K F G) (hD : en_D T K F G a_kind a_first a_second) (hA : aw_W T A L R) (hB : aw_D A L R a_left a_right) (hS : sw_W A H S) (hSD : sw_D H S a_stack) (hM0 : en_M T K F G (fun _ => False) (fun _ _ => False) c0 n0 [] a_state)
    (kk : ∀ (r : Int32) (W : List (Nat × Int32)) (st ta to pa pb : Nat → Int32), bq_P (2 ^ H) (wq_P T K F G A L R H S t u) r → post r (nI T, f_atoms, f_clauses, nI H, nI W.length, 0, f_known, f_count, f_always, f_ever, f_fewest, f_most, f_askA, f_askB, f_together, a_kind, a_first, a_second, a_left, a_right, a_yes, a_no, a_stack, st, ta, to, pa, pb, a_found, a_says, a_mark)) :
    ∀ (d i n m : Nat), i + d = H → d < n → m < 2 ^ i → (∀ k, m.testBit k = true ↔ (k < i ∧ S k % 2 = 0)) → wX_why_33 post (nI t) (nI u) (nI T) f_atoms f_clauses (nI H) 0 0 f_known f_count f_always f_ever f_fewest f_most f_askA f_askB f_together a_kind a_first a_second a_left a_right a_yes a_no a_stack a_state a_trailAt a_trailOld a_pendingA a_pendingB a_found a_says a_mark n (nI m) (nI i)
  | 0, i, n + 1, m, hi, hn, h2, hm => by
    have h8 := hS.1
    have e : i = H := by omega
    subst e
    refine br_t (nI_le (by omega) (by omega)) ⟨i + 2, xw_70 (s0 := a_state) ht hu hw hD hA hB hS hSD hM0 hm kk (i + 1) 0 (i + 2) [] a_state a_trailAt a_trailOld a_pendingA a_pendingB (by omega) (by omega) (tr_R0 trivial) (by simp) (fun x hx _ => Nat.zero_le _)⟩
  | d + 1, i, n + 1, m, hi, hn, h2, hm => by
    have h8 := hS.1
    have a8 := hA.1
    have si := hS.2 i (by omega)
    have rs : a_stack (nI i).toNatClampNeg = nI (S i) := xe_r (by omega) (hSD i (by omega))
    have p2 : 2 ^ (i + 1) = 2 * 2 ^ i := by rw [Nat.pow_succ]; omega
    refine br_f (nI_ge (by omega) (by omega)) (And.intro (vp_in_nI (by omega) (by decide)) ?_)
    rw [rs, bw_a1 (by omega)]
    refine pk_eq (S i % 2) 0 (fun z => nm_r (wp_or h2 (by omega)) (nm_r (nI_1 _) (xw_33 ht hu hw hD hA hB hS hSD hM0 kk d (i + 1) n (m + 2 ^ i) (by omega) (by omega) (by omega) (fun k => ?_)))) (fun z => nm_r (nI_1 _) (xw_33 ht hu hw hD hA hB hS hSD hM0 kk d (i + 1) n m (by omega) (by omega) (by omega) (fun k => ?_))) rfl rfl (by omega) (by omega)
    · rw [wp_tb h2, Bool.or_eq_true, hm k, decide_eq_true_eq]
      constructor
      · rintro (⟨a, b⟩ | a)
        · exact ⟨by omega, b⟩
        · subst a; exact ⟨by omega, z⟩
      · rintro ⟨a, b⟩
        by_cases e : k = i
        · exact Or.inr e
        · exact Or.inl ⟨by omega, b⟩
    · rw [hm k]
      constructor
      · rintro ⟨a, b⟩; exact ⟨by omega, b⟩
      · rintro ⟨a, b⟩
        refine ⟨?_, b⟩
        have : k ≠ i := fun e => z (by rw [← e]; exact b)
        omega
theorem yw_34 {f_clauses f_known : Int32} {a_kind a_first a_second a_left a_right a_stack : Nat → Int32} {post : Int32 → SY → Prop} {t u : Nat} (ht : t < T) (hu : u < T) (hT : T ≤ 16) (a8 : A ≤ 8) (hS : sw_W A H S) (hSD : sw_D H S a_stack) (hci : ci_P T K F G A L R (2 ^ A) a_possible a_classOf) (kk : ∀ (r : Int32), bq_P (2 ^ H) (wq_P T K F G A L R H S t u) r → post r (nI T, nI A, f_clauses, nI H, f_models, f_known, f_closed, a_kind, a_first, a_second, a_left, a_right, a_literals, a_stack, a_of, a_possible, a_model, a_classOf)) :
    ∀ (d i n : Nat) (x3 : Int32), i + d = 2 ^ H → d < n → bq_P i (wq_P T K F G A L R H S t u) x3 → wY_why_34 post (nI t) (nI u) (nI T) (nI A) f_clauses (nI H) f_models f_known f_closed a_kind a_first a_second a_left a_right a_literals a_stack a_of a_possible a_model a_classOf n x3 (nI i)
  | 0, i, n + 1, x3, hi, hn, hb => by
    have h8 := hS.1
    have pH : 2 ^ H ≤ 2 ^ 8 := Nat.pow_le_pow_right (by decide) h8
    have e : i = 2 ^ H := by omega
    subst e
    refine br_t (by rw [bw_pw H (by omega)]; exact Int32.le_refl _) (kk _ hb)
  | d + 1, i, n + 1, x3, hi, hn, hb => by
    have h8 := hS.1
    have pH : 2 ^ H ≤ 2 ^ 8 := Nat.pow_le_pow_right (by decide) h8
    have pA : 2 ^ A ≤ 2 ^ 8 := Nat.pow_le_pow_right (by decide) a8
    have i8 : i < 256 := by omega
    have next : ∀ y, bq_P (i + 1) (wq_P T K F G A L R H S t u) y → wY_why_34 post (nI t) (nI u) (nI T) (nI A) f_clauses (nI H) f_models f_known f_closed a_kind a_first a_second a_left a_right a_literals a_stack a_of a_possible a_model a_classOf n y (nI (i + 1)) := fun y hy => yw_34 ht hu hT a8 hS hSD hci kk d (i + 1) n y (by omega) (by omega) hy
    have s61 : ((wq_P T K F G A L R H S t u) i → bq_P (i + 1) (wq_P T K F G A L R H S t u) (nI i)) → wY_why_61 post (wY_why_34 post (nI t) (nI u) (nI T) (nI A) f_clauses (nI H) f_models f_known f_closed a_kind a_first a_second a_left a_right a_literals a_stack a_of a_possible a_model a_classOf n) (nI t) (nI u) x3 (nI i) (nI T) (nI A) f_clauses (nI H) f_models f_known f_closed a_kind a_first a_second a_left a_right a_literals a_stack a_of a_possible a_model a_classOf := fun g => by
      refine br_f (by decide) ⟨H + 1, yi_at i8 a8 hS hSD (fun z => ?_) (fun z => ?_) H 0 (H + 1) (by omega) (by omega) (fun k hk => absurd hk (Nat.not_lt_zero k))⟩
      · refine br_f (by decide) (ya_at i8 a8 hS hSD (fun m m1 m2 => ?_))
        have iff : wy_C T K F G A L R m t u ↔ (wq_P T K F G A L R H S t u) i := by
          unfold wq_P
          rw [pl_eq m2]
          exact ⟨fun q => ⟨z, q⟩, fun q => q.2⟩
        refine yo_one hT pA hci m1 ht hu (fun y => ?_) (fun y => ?_)
        · exact br_f (by decide) (nm_r (nI_1 _) (next _ (g (iff.mp y))))
        · exact br_t rfl (nm_r (nI_1 _) (next _ (bq_no hb (fun q => y (iff.mpr q)))))
      · exact br_t rfl (nm_r (nI_1 _) (next _ (bq_no hb (fun q => z q.1))))
    refine br_f (by rw [bw_pw H (by omega)]; exact nI_ge (by omega) (by omega)) ?_
    have hb' := hb
    rcases bq_r hb with rfl | ⟨s, s1, rfl⟩
    · exact br_t (by decide) (s61 (fun q => bq_new1 hb' (by omega) q))
    · have pi := pc_8 i i8
      have ps := pc_8 s (by omega)
      refine br_f (nI_pos (by omega)) (ys_size i8 (ys_size (by omega) (pk_le (pc_n s) (pc_n i) (fun y => ?_) (fun y => ?_) rfl rfl (by omega) (by omega))))
      · exact br_t rfl (nm_r (nI_1 _) (next _ (bq_keep (by omega) hb' (by omega) y)))
      · exact s61 (fun q => bq_new2 hb' (by omega) (by omega) q y)
theorem zz_why {k : Nat} (hd : rl_D T K F G A L R C hs H S) (hx : (en_D T K F G a_kind a_first a_second ∧ aw_D A L R a_left a_right ∧ cw_X C hs a_yes a_no ∧ sw_D H S a_stack ∧ (f_known = 0 ∨ (f_known = 1 ∧ ∃ tg, ac_P (wy_n T K F G A L R) tg (md_P T K F G A L R C hs H S) f_count f_always f_ever f_fewest f_most f_together a_found)))) (hy : (en_D T K F G b_kind b_first b_second ∧ aw_D A L R b_left b_right ∧ cw_Y C hs a_literals ∧ sw_D H S b_stack ∧ (f_closed = 0 ∨ (f_closed = 1 ∧ ci_P T K F G A L R (2 ^ A) a_possible a_classOf)) ∧ (g_known = 0 ∨ (g_known = 1 ∧ ml_P (md_P T K F G A L R C hs H S) (2 ^ A) f_models a_model)))) (v1 : Int32) (v2 : Int32) : wpX_why (fun r u' => wpY_why (fun r' v' => r' = r ∧ i_Rel (k + 4) u' v') (nI T, nI A, nI C, nI H, f_models, g_known, f_closed, b_kind, b_first, b_second, b_left, b_right, a_literals, b_stack, a_of, a_possible, a_model, a_classOf) v1 v2) (nI T, nI A, nI C, nI H, f_trail, f_pending, f_known, f_count, f_always, f_ever, f_fewest, f_most, f_askA, f_askB, f_together, a_kind, a_first, a_second, a_left, a_right, a_yes, a_no, a_stack, a_state, a_trailAt, a_trailOld, a_pendingA, a_pendingB, a_found, a_says, a_mark) v1 v2 := by
  have h8 := hd.2.1.1
  have hT := hd.1.1
  unfold wpX_why
  dsimp only
  rcases ix_c v1 (N := T) (by omega) with h1 | ⟨t, t1, rfl⟩
  · refine xo_bad h1 (by omega) (br_f (by decide) ?_)
    show wpY_why _ _ _ _
    unfold wpY_why
    exact yo_bad h1 (br_t rfl ⟨rfl, rl_mk hd hx hy⟩)
  rcases ix_c v2 (N := T) (by omega) with h2 | ⟨u, u1, rfl⟩
  · refine xo_in t1 (by omega) (br_t rfl (xo_bad h2 (by omega) (br_f (by decide) ?_)))
    show wpY_why _ _ _ _
    unfold wpY_why
    exact yo_in t1 (by omega) (br_f (by decide) (yo_bad h2 (br_t rfl ⟨rfl, rl_mk hd hx hy⟩)))
  refine xo_in t1 (by omega) (br_t rfl (xo_in u1 (by omega) (br_t rfl (xe_begin hd.1 hx.1 (fun c0 n0 s0 ta0 to0 pa0 pb0 hM0 => ?_)))))
  refine ⟨H + 1, xw_33 t1 u1 hd.1 hx.1 hd.2.1 hx.2.1 hd.2.2.2 hx.2.2.2.1 hM0 ?_ H 0 (H + 1) 0 (by omega) (by omega) (by decide) (fun k => ?_)⟩
  · intro r W st ta to pa pb hr
    show wpY_why _ _ _ _
    unfold wpY_why
    refine yo_in t1 (by omega) (br_f (by decide) (yo_in u1 (by omega) (br_f (by decide) (yk_closeAll hd hy (fun f_closed a_of a_possible a_classOf ec hci => ?_)))))
    refine ⟨2 ^ H + 1, yw_34 t1 u1 hT h8 hd.2.2.2 hy.2.2.2.1 hci (fun r' hr' => ⟨bq_u hr hr', ?_⟩) (2 ^ H) 0 (2 ^ H + 1) (-2) (by omega) (by omega) bq_0⟩
    exact rl_mk hd hx ⟨hy.1, hy.2.1, hy.2.2.1, hy.2.2.2.1, Or.inr ⟨ec, hci⟩, hy.2.2.2.2.2⟩
  · rw [Nat.zero_testBit]
    exact ⟨fun e => absurd e (by decide), fun e => absurd e.1 (Nat.not_lt_zero k)⟩
theorem xb_16' {post : Int32 → SX → Prop} {J6 : Int32 → Int32 → Int32 → Int32 → Int32 → Int32 → Int32 → Int32 → Int32 → Int32 → Int32 → Int32 → Int32 → Int32 → Int32 → Int32 → (Nat → Int32) → (Nat → Int32) → (Nat → Int32) → (Nat → Int32) → (Nat → Int32) → (Nat → Int32) → (Nat → Int32) → (Nat → Int32) → (Nat → Int32) → (Nat → Int32) → (Nat → Int32) → (Nat → Int32) → (Nat → Int32) → (Nat → Int64) → (Nat → Int32) → (Nat → Int32) → Prop} {z : Nat} {s0 : Nat → Int32} {c0 n0 : Nat → Nat} (hz : z ≤ 8) (hw : en_W T K F G) (hD : en_D T K F G a_kind a_first a_second) (hA : aw_W T A L R) (hB : aw_D A L R a_left a_right) (hS : sw_W A H S) (hSD : sw_D H S a_stack) (hM0 : en_M T K F G (fun _ => False) (fun _ _ => False) c0 n0 [] s0)
    (kf : ∀ (s : Nat) (W : List (Nat × Int32)) (st ta to pa pb : Nat → Int32), s < 2 ^ H → (wr_P T K F G A L R H S) s → pc_n s = z → (∀ x, x < s → (wr_P T K F G A L R H S) x → pc_n x ≠ z) → post (nI s) (nI T, f_atoms, f_clauses, nI H, nI W.length, 0, f_known, f_count, f_always, f_ever, f_fewest, f_most, f_askA, f_askB, f_together, a_kind, a_first, a_second, a_left, a_right, a_yes, a_no, a_stack, st, ta, to, pa, pb, a_found, a_says, a_mark))
    (kn : ∀ (W : List (Nat × Int32)) (st ta to pa pb : Nat → Int32), (∀ x, x < 2 ^ H → (wr_P T K F G A L R H S) x → pc_n x ≠ z) → tr_R [] s0 W st ta to → W.length ≤ 600 → J6 (nI (z + 1)) (nI T) f_atoms f_clauses (nI H) (nI W.length) 0 f_known f_count f_always f_ever f_fewest f_most f_askA f_askB f_together a_kind a_first a_second a_left a_right a_yes a_no a_stack st ta to pa pb a_found a_says a_mark) :
    ∀ (d i n : Nat) (W : List (Nat × Int32)) (st ta to pa pb : Nat → Int32), i + d = 2 ^ H → d < n → tr_R [] s0 W st ta to → W.length ≤ 600 → (∀ x, x < i → (wr_P T K F G A L R H S) x → pc_n x ≠ z) → wX_blame_16 post J6 (nI z) n (nI i) (nI T) f_atoms f_clauses (nI H) (nI W.length) 0 f_known f_count f_always f_ever f_fewest f_most f_askA f_askB f_together a_kind a_first a_second a_left a_right a_yes a_no a_stack st ta to pa pb a_found a_says a_mark
  | 0, i, n + 1, W, st, ta, to, pa, pb, hi, hn, hR, hW, hj => by
    have h8 := hS.1
    have pH : 2 ^ H ≤ 2 ^ 8 := Nat.pow_le_pow_right (by decide) h8
    refine br_t (by rw [bw_pw H (by omega)]; exact nI_le (by omega) (by omega)) (nm_r (nI_1 _) (kn W st ta to pa pb (fun x hx => hj x (by omega)) hR hW))
  | d + 1, i, n + 1, W, st, ta, to, pa, pb, hi, hn, hR, hW, hj => by
    have h8 := hS.1
    have hT := hw.1
    have pH : 2 ^ H ≤ 2 ^ 8 := Nat.pow_le_pow_right (by decide) h8
    have pc := pc_8 i (by omega)
    have next : ∀ (W : List (Nat × Int32)) (st ta to pa pb : Nat → Int32), tr_R [] s0 W st ta to → W.length ≤ 600 → ((wr_P T K F G A L R H S) i → pc_n i ≠ z) → wX_blame_16 post J6 (nI z) n (nI (i + 1)) (nI T) f_atoms f_clauses (nI H) (nI W.length) 0 f_known f_count f_always f_ever f_fewest f_most f_askA f_askB f_together a_kind a_first a_second a_left a_right a_yes a_no a_stack st ta to pa pb a_found a_says a_mark := fun W st ta to pa pb hR hW g =>
      xb_16' hz hw hD hA hB hS hSD hM0 kf kn d (i + 1) n W st ta to pa pb (by omega) (by omega) hR hW (fun x hx => by
        by_cases y : x = i
        · rw [y]; exact g
        · exact hj x (by omega))
    refine br_f (by rw [bw_pw H (by omega)]; exact nI_ge (by omega) (by omega)) (xo_ones (by omega) (pk_eq (pc_n i) z (fun y => ?_) (fun y => ?_) rfl rfl (by omega) (by omega)))
    · refine xa_assume (W := W) (s := i) (by omega) hw hD hA hB hS hSD hM0 hR hW ?_
      intro r c nx W' st' ta' to' pa' pb' hM hR' hW' hr
      rcases hr with ⟨rfl, hr⟩ | ⟨rfl, hr⟩
      · exact br_f (show ¬ (1 : Int32) = 0 from by decide) (kf i W' st' ta' to' pa' pb' (by omega) hr y hj)
      · exact br_t rfl (nm_r (nI_1 _) (next W' st' ta' to' pa' pb' hR' hW' (fun g => absurd g hr)))
    · exact nm_r (nI_1 _) (next W st ta to pa pb hR hW (fun _ => y))
theorem xb_6 {post : Int32 → SX → Prop} {s0 : Nat → Int32} {c0 n0 : Nat → Nat} (hw : en_W T K F G) (hD : en_D T K F G a_kind a_first a_second) (hA : aw_W T A L R) (hB : aw_D A L R a_left a_right) (hS : sw_W A H S) (hSD : sw_D H S a_stack) (hM0 : en_M T K F G (fun _ => False) (fun _ _ => False) c0 n0 [] s0)
    (kk : ∀ (r : Int32) (W : List (Nat × Int32)) (st ta to pa pb : Nat → Int32), bq_P (2 ^ H) (wr_P T K F G A L R H S) r → post r (nI T, f_atoms, f_clauses, nI H, nI W.length, 0, f_known, f_count, f_always, f_ever, f_fewest, f_most, f_askA, f_askB, f_together, a_kind, a_first, a_second, a_left, a_right, a_yes, a_no, a_stack, st, ta, to, pa, pb, a_found, a_says, a_mark)) :
    ∀ (d z n : Nat) (W : List (Nat × Int32)) (st ta to pa pb : Nat → Int32), z + d = H + 1 → d < n → tr_R [] s0 W st ta to → W.length ≤ 600 → (∀ x, x < 2 ^ H → (wr_P T K F G A L R H S) x → z ≤ pc_n x) → wX_blame_6 post n (nI z) (nI T) f_atoms f_clauses (nI H) (nI W.length) 0 f_known f_count f_always f_ever f_fewest f_most f_askA f_askB f_together a_kind a_first a_second a_left a_right a_yes a_no a_stack st ta to pa pb a_found a_says a_mark
  | 0, z, n + 1, W, st, ta, to, pa, pb, hi, hn, hR, hW, hj => by
    have h8 := hS.1
    have pH : 2 ^ H ≤ 2 ^ 8 := Nat.pow_le_pow_right (by decide) h8
    refine br_t (nI_lt (by omega) (by omega)) (kk _ W st ta to pa pb (Or.inl ⟨fun x hx hq => ?_, rfl⟩))
    have a := hj x hx hq
    have b := pc_H H (by omega) x (by omega) hx
    omega
  | d + 1, z, n + 1, W, st, ta, to, pa, pb, hi, hn, hR, hW, hj => by
    have h8 := hS.1
    refine br_f (nI_nlt (by omega) (by omega)) ⟨2 ^ H + 1, xb_16' (by omega) hw hD hA hB hS hSD hM0 ?_ ?_ (2 ^ H) 0 (2 ^ H + 1) W st ta to pa pb (by omega) (by omega) hR hW (fun x hx => absurd hx (Nat.not_lt_zero x))⟩
    · intro s W st ta to pa pb s1 s2 s3 s4
      refine kk _ W st ta to pa pb (Or.inr ⟨s, s1, s2, rfl, fun x hx hq => ?_⟩)
      have a := hj x hx hq
      rcases Nat.lt_or_ge x s with y | y
      · have := s4 x y hq; omega
      · omega
    · intro W st ta to pa pb g1 g2 g3
      refine xb_6 hw hD hA hB hS hSD hM0 kk d (z + 1) n W st ta to pa pb (by omega) (by omega) g2 g3 (fun x hx hq => ?_)
      have a := hj x hx hq
      have b := g1 x hx hq
      omega
theorem yb_9 {f_terms f_clauses f_known : Int32} {a_kind a_first a_second a_left a_right a_stack : Nat → Int32} {post : Int32 → SY → Prop} (a8 : A ≤ 8) (hS : sw_W A H S) (hSD : sw_D H S a_stack) (hci : ci_P T K F G A L R (2 ^ A) a_possible a_classOf) (kk : ∀ (r : Int32), bq_P (2 ^ H) (wr_P T K F G A L R H S) r → post r (f_terms, nI A, f_clauses, nI H, f_models, f_known, f_closed, a_kind, a_first, a_second, a_left, a_right, a_literals, a_stack, a_of, a_possible, a_model, a_classOf)) :
    ∀ (d i n : Nat) (x1 : Int32), i + d = 2 ^ H → d < n → bq_P i (wr_P T K F G A L R H S) x1 → wY_blame_9 post f_terms (nI A) f_clauses (nI H) f_models f_known f_closed a_kind a_first a_second a_left a_right a_literals a_stack a_of a_possible a_model a_classOf n x1 (nI i)
  | 0, i, n + 1, x1, hi, hn, hb => by
    have h8 := hS.1
    have pH : 2 ^ H ≤ 2 ^ 8 := Nat.pow_le_pow_right (by decide) h8
    have e : i = 2 ^ H := by omega
    subst e
    refine br_t (by rw [bw_pw H (by omega)]; exact Int32.le_refl _) (kk _ hb)
  | d + 1, i, n + 1, x1, hi, hn, hb => by
    have h8 := hS.1
    have pH : 2 ^ H ≤ 2 ^ 8 := Nat.pow_le_pow_right (by decide) h8
    have i8 : i < 256 := by omega
    have next : ∀ y, bq_P (i + 1) (wr_P T K F G A L R H S) y → wY_blame_9 post f_terms (nI A) f_clauses (nI H) f_models f_known f_closed a_kind a_first a_second a_left a_right a_literals a_stack a_of a_possible a_model a_classOf n y (nI (i + 1)) := fun y hy => yb_9 a8 hS hSD hci kk d (i + 1) n y (by omega) (by omega) hy
    have s34 : ((wr_P T K F G A L R H S) i → bq_P (i + 1) (wr_P T K F G A L R H S) (nI i)) → wY_blame_34 post (wY_blame_9 post f_terms (nI A) f_clauses (nI H) f_models f_known f_closed a_kind a_first a_second a_left a_right a_literals a_stack a_of a_possible a_model a_classOf n) x1 (nI i) f_terms (nI A) f_clauses (nI H) f_models f_known f_closed a_kind a_first a_second a_left a_right a_literals a_stack a_of a_possible a_model a_classOf := fun g => by
      have iff := wr_iff (T := T) (K := K) (F := F) (G := G) (L := L) (R := R) hS (s := i)
      refine br_f (by decide) ⟨2 ^ A + 1, yp_2 (T := T) (K := K) (F := F) (G := G) (L := L) (R := R) i8 a8 hS hSD hci (fun z => ?_) (fun z => ?_) (2 ^ A) 0 (2 ^ A + 1) (by omega) (by omega) (fun k hk => absurd hk (Nat.not_lt_zero k))⟩
      · exact br_f (by decide) (nm_r (nI_1 _) (next _ (bq_no hb (fun q => iff.mp q z))))
      · exact br_t rfl (nm_r (nI_1 _) (next _ (g (iff.mpr z))))
    refine br_f (by rw [bw_pw H (by omega)]; exact nI_ge (by omega) (by omega)) ?_
    have hb' := hb
    rcases bq_r hb with rfl | ⟨s, s1, rfl⟩
    · exact br_t (by decide) (s34 (fun q => bq_new1 hb' (by omega) q))
    · have pi := pc_8 i i8
      have ps := pc_8 s (by omega)
      refine br_f (nI_pos (by omega)) (ys_size i8 (ys_size (by omega) (pk_le (pc_n s) (pc_n i) (fun y => ?_) (fun y => ?_) rfl rfl (by omega) (by omega))))
      · exact br_t rfl (nm_r (nI_1 _) (next _ (bq_keep (by omega) hb' (by omega) y)))
      · exact s34 (fun q => bq_new2 hb' (by omega) (by omega) q y)
theorem zz_blame {k : Nat} (hd : rl_D T K F G A L R C hs H S) (hx : (en_D T K F G a_kind a_first a_second ∧ aw_D A L R a_left a_right ∧ cw_X C hs a_yes a_no ∧ sw_D H S a_stack ∧ (f_known = 0 ∨ (f_known = 1 ∧ ∃ tg, ac_P (wy_n T K F G A L R) tg (md_P T K F G A L R C hs H S) f_count f_always f_ever f_fewest f_most f_together a_found)))) (hy : (en_D T K F G b_kind b_first b_second ∧ aw_D A L R b_left b_right ∧ cw_Y C hs a_literals ∧ sw_D H S b_stack ∧ (f_closed = 0 ∨ (f_closed = 1 ∧ ci_P T K F G A L R (2 ^ A) a_possible a_classOf)) ∧ (g_known = 0 ∨ (g_known = 1 ∧ ml_P (md_P T K F G A L R C hs H S) (2 ^ A) f_models a_model)))) : wpX_blame (fun r u' => wpY_blame (fun r' v' => r' = r ∧ i_Rel (k + 4) u' v') (nI T, nI A, nI C, nI H, f_models, g_known, f_closed, b_kind, b_first, b_second, b_left, b_right, a_literals, b_stack, a_of, a_possible, a_model, a_classOf)) (nI T, nI A, nI C, nI H, f_trail, f_pending, f_known, f_count, f_always, f_ever, f_fewest, f_most, f_askA, f_askB, f_together, a_kind, a_first, a_second, a_left, a_right, a_yes, a_no, a_stack, a_state, a_trailAt, a_trailOld, a_pendingA, a_pendingB, a_found, a_says, a_mark) := by
  have h8 := hd.2.1.1
  have hH := hd.2.2.2.1
  have pH : 2 ^ H ≤ 2 ^ 8 := Nat.pow_le_pow_right (by decide) hH
  unfold wpX_blame
  dsimp only
  refine xe_begin hd.1 hx.1 (fun c0 n0 s0 ta0 to0 pa0 pb0 hM0 => ?_)
  refine ⟨H + 1, xb_6 hd.1 hx.1 hd.2.1 hx.2.1 hd.2.2.2 hx.2.2.2.1 hM0 ?_ H 1 (H + 1) [] s0 ta0 to0 pa0 pb0 (by omega) (by omega) (tr_R0 trivial) (by simp) (fun x hx hq => ?_)⟩
  · intro r W st ta to pa pb hr
    show wpY_blame _ _
    unfold wpY_blame
    refine yk_learn hd hy (fun f_models g_known f_closed a_of a_possible a_model a_classOf eg ec' hci hml => ?_)
    refine ⟨2 ^ H + 1, yb_9 h8 hd.2.2.2 hy.2.2.2.1 hci (fun r' hr' => ⟨bq_u hr hr', ?_⟩) (2 ^ H) 0 (2 ^ H + 1) (-2) (by omega) (by omega) bq_0⟩
    exact rl_mk hd hx ⟨hy.1, hy.2.1, hy.2.2.1, hy.2.2.2.1, Or.inr ⟨ec', hci⟩, Or.inr ⟨eg, hml⟩⟩
  · rcases Nat.eq_zero_or_pos (pc_n x) with z | z
    · have e := pc_z x (by omega) z
      subst e
      obtain ⟨k', _, k2, _⟩ := hq
      rw [Nat.zero_testBit] at k2
      exact absurd k2 (by decide)
    · exact z
end
theorem i_vc_why {k : Nat} {u : SX} {v : SY} (I : i_Rel k u v) (hk : k + 4 ≤ 2048) (v1 : Int32) (v2 : Int32) : wpX_why (fun r u' => wpY_why (fun r' v' => r' = r ∧ i_Rel (k + 4) u' v') v v1 v2) u v1 v2 := by
  obtain ⟨T, K, F, G, A, L, R, C, hs, H, S, hd, hX, hY⟩ := I
  refine rl_xe (P := fun u => wpX_why (fun r u' => wpY_why (fun r' v' => r' = r ∧ i_Rel (k + 4) u' v') v v1 v2) u v1 v2) hX ?_
  intro f_trail f_pending f_known f_count f_always f_ever f_fewest f_most f_askA f_askB f_together a_kind a_first a_second a_left a_right a_yes a_no a_stack a_state a_trailAt a_trailOld a_pendingA a_pendingB a_found a_says a_mark hx
  refine rl_ye (P := fun v => wpX_why (fun r u' => wpY_why (fun r' v' => r' = r ∧ i_Rel (k + 4) u' v') v v1 v2) (nI T, nI A, nI C, nI H, f_trail, f_pending, f_known, f_count, f_always, f_ever, f_fewest, f_most, f_askA, f_askB, f_together, a_kind, a_first, a_second, a_left, a_right, a_yes, a_no, a_stack, a_state, a_trailAt, a_trailOld, a_pendingA, a_pendingB, a_found, a_says, a_mark) v1 v2) hY ?_
  intro f_models g_known f_closed b_kind b_first b_second b_left b_right a_literals b_stack a_of a_possible a_model a_classOf hy
  exact zz_why hd hx hy v1 v2

theorem i_vc_blame {k : Nat} {u : SX} {v : SY} (I : i_Rel k u v) (hk : k + 4 ≤ 2048) : wpX_blame (fun r u' => wpY_blame (fun r' v' => r' = r ∧ i_Rel (k + 4) u' v') v) u := by
  obtain ⟨T, K, F, G, A, L, R, C, hs, H, S, hd, hX, hY⟩ := I
  refine rl_xe (P := fun u => wpX_blame (fun r u' => wpY_blame (fun r' v' => r' = r ∧ i_Rel (k + 4) u' v') v) u) hX ?_
  intro f_trail f_pending f_known f_count f_always f_ever f_fewest f_most f_askA f_askB f_together a_kind a_first a_second a_left a_right a_yes a_no a_stack a_state a_trailAt a_trailOld a_pendingA a_pendingB a_found a_says a_mark hx
  refine rl_ye (P := fun v => wpX_blame (fun r u' => wpY_blame (fun r' v' => r' = r ∧ i_Rel (k + 4) u' v') v) (nI T, nI A, nI C, nI H, f_trail, f_pending, f_known, f_count, f_always, f_ever, f_fewest, f_most, f_askA, f_askB, f_together, a_kind, a_first, a_second, a_left, a_right, a_yes, a_no, a_stack, a_state, a_trailAt, a_trailOld, a_pendingA, a_pendingB, a_found, a_says, a_mark)) hY ?_
  intro f_models g_known f_closed b_kind b_first b_second b_left b_right a_literals b_stack a_of a_possible a_model a_classOf hy
  exact zz_blame hd hx hy
end
