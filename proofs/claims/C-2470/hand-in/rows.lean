section
/-! pure rows to paste: stores, nI and lN arithmetic, masks, shifts, narrowing, branches by naturals (pk_le, pk_lt, pk_eq), loops (lp1 .. lp16: the measure of the state; rp1 ..: recursion), negatives. Take what you need -/
theorem pk_us {f : Nat → Int32} {k : Nat} {x : Int32} : upd f k x k = x := if_pos rfl
theorem pk_un {f : Nat → Int32} {k j : Nat} {x : Int32} (h : j ≠ k) : upd f k x j = f j := if_neg h
theorem pk_uLs {f : Nat → Int64} {k : Nat} {x : Int64} : vp_updL f k x k = x := if_pos rfl
theorem pk_uLn {f : Nat → Int64} {k j : Nat} {x : Int64} (h : j ≠ k) : vp_updL f k x j = f j := if_neg h
theorem pk_sub {a b : Nat} (h : b ≤ a) : nI a - nI b = nI (a - b) := by
  obtain ⟨c, rfl⟩ : ∃ c, a = c + b := ⟨a - b, by omega⟩
  rw [← nI_add, Int32.add_sub_cancel, Nat.add_sub_cancel]
theorem pk_m1 (n : Nat) : nI (n + 1) + (-1) = nI n := by
  rw [← nI_1, Int32.add_assoc, show (1 : Int32) + (-1) = 0 from rfl, Int32.add_zero]
theorem pk_mul (a b : Nat) : nI a * nI b = nI (a * b) := (Int32.ofNat_mul a b).symm
theorem pk_div {a d : Nat} (ha : a < 2 ^ 31) (h0 : 0 < d) (hd : d < 2 ^ 31) : nI a / nI d = nI (a / d) := by
  apply Int32.toInt_inj.mp
  rw [lg_idiv_nonneg (by rw [nI_toInt ha]; omega) (by rw [nI_toInt hd]; omega), nI_toInt ha, nI_toInt hd, nI_toInt (Nat.lt_of_le_of_lt (Nat.div_le_self a d) ha)]
  first | rfl | exact (Int.natCast_ediv _ _).symm
theorem pk_rem {a d : Nat} (ha : a < 2 ^ 31) (h0 : 0 < d) (hd : d < 2 ^ 31) : nI a - nI a / nI d * nI d = nI (a % d) := by
  rw [pk_div ha h0 hd, pk_mul, pk_sub (Nat.div_mul_le_self a d)]
  exact congrArg nI (by have := Nat.div_add_mod' a d; omega)
theorem pk_sub_toInt {a b : Nat} (ha : a < 2 ^ 30) (hb : b < 2 ^ 30) : (nI a - nI b).toInt = (a : Int) - b := by
  rw [Int32.toInt_sub, nI_toInt (by omega), nI_toInt (by omega)]
  exact Int.bmod_eq_of_le (by omega) (by omega)
theorem pk_sneg {a b : Nat} (hb : b < 2 ^ 30) (h : a < b) : nI a - nI b < 0 := by
  rw [Int32.lt_iff_toInt_lt, pk_sub_toInt (by omega) hb, show (0 : Int32).toInt = 0 from by decide]
  omega
theorem pk_ix (x : Int32) {n : Nat} (hn : n < 2 ^ 31) : x < 0 ∨ nI n ≤ x ∨ ∃ j : Nat, j < n ∧ x = nI j := by
  by_cases h : x < 0
  · exact Or.inl h
  · obtain ⟨j, hj, rfl⟩ := nI_of h
    by_cases h2 : j < n
    · exact Or.inr (Or.inr ⟨j, h2, rfl⟩)
    · exact Or.inr (Or.inl (nI_le (by omega) hj))
theorem pk_le {x y : Int32} {A B : Prop} (a b : Nat) (f : a ≤ b → A) (g : b < a → B) (hx : x = nI a := by rfl) (hy : y = nI b := by rfl) (ha : a < 2 ^ 31 := by omega) (hb : b < 2 ^ 31 := by omega) : (x ≤ y → A) ∧ (¬ x ≤ y → B) := by
  subst hx hy
  rw [nI_leI ha hb]
  exact ⟨f, fun z => g (by omega)⟩
theorem pk_lt {x y : Int32} {A B : Prop} (a b : Nat) (f : a < b → A) (g : b ≤ a → B) (hx : x = nI a := by rfl) (hy : y = nI b := by rfl) (ha : a < 2 ^ 31 := by omega) (hb : b < 2 ^ 31 := by omega) : (x < y → A) ∧ (¬ x < y → B) := by
  subst hx hy
  rw [nI_ltI ha hb]
  exact ⟨f, fun z => g (by omega)⟩
theorem pk_eq {x y : Int32} {A B : Prop} (a b : Nat) (f : a = b → A) (g : a ≠ b → B) (hx : x = nI a := by rfl) (hy : y = nI b := by rfl) (ha : a < 2 ^ 31 := by omega) (hb : b < 2 ^ 31 := by omega) : (x = y → A) ∧ (¬ x = y → B) := by
  subst hx hy
  rw [nI_eq ha hb]
  exact ⟨f, g⟩
theorem pk_in {x : Int32} (n N : Nat) (h : n < N) (hx : x = nI n := by rfl) (hN : N < 2 ^ 31 := by omega) : vp_in x N := by
  subst hx
  exact vp_in_nI h hN
theorem pk_cl {x : Int32} (n : Nat) (hx : x = nI n := by rfl) (h : n < 2 ^ 31 := by omega) : x.toNatClampNeg = n := by
  subst hx
  exact nI_clamp h
theorem pk_tn {n : Nat} (h : n < 2 ^ 32) : (nI n).toBitVec.toNat = n := Nat.mod_eq_of_lt h
theorem pk_and (x : Int32) {m : Int32} (k : Nat) (hm : m.toBitVec.toNat = 2 ^ k - 1) : x &&& m = nI (x.toBitVec.toNat % 2 ^ k) := by
  apply Int32.toBitVec_inj.mp
  apply BitVec.eq_of_toNat_eq
  rw [Int32.toBitVec_and, BitVec.toNat_and, hm, Nat.and_two_pow_sub_one_eq_mod]
  show _ = (BitVec.ofNat 32 _).toNat
  rw [BitVec.toNat_ofNat]
  exact (Nat.mod_eq_of_lt (Nat.lt_of_le_of_lt (Nat.mod_le _ _) x.toBitVec.isLt)).symm
theorem pk_andN {n : Nat} (h : n < 2 ^ 32) {m : Int32} (k : Nat) (hm : m.toBitVec.toNat = 2 ^ k - 1) : nI n &&& m = nI (n % 2 ^ k) := by
  rw [pk_and _ k hm, pk_tn h]
theorem pk_andE (x : Int32) {m : Int32} (k : Nat) (hm : m.toBitVec.toNat = 2 ^ k - 1) : ∃ j : Nat, j < 2 ^ k ∧ x &&& m = nI j := ⟨_, Nat.mod_lt _ (Nat.two_pow_pos k), pk_and x k hm⟩
theorem pk_andIn (x : Int32) {m : Int32} (k : Nat) (hm : m.toBitVec.toNat = 2 ^ k - 1) (hk : k ≤ 30) : vp_in (x &&& m) (2 ^ k) := by
  obtain ⟨j, hj, e⟩ := pk_andE x k hm
  rw [e]
  exact vp_in_nI hj (Nat.lt_of_le_of_lt (Nat.pow_le_pow_right (by decide) hk) (by decide))
theorem pk_shl (a s : Int32) (k : Nat) (hs : (s.toBitVec.smod 32).toNat = k) : (a <<< s).toBitVec.toNat = a.toBitVec.toNat * 2 ^ k % 2 ^ 32 := by
  show (a.toBitVec <<< (s.toBitVec.smod 32).toNat).toNat = _
  rw [hs, BitVec.toNat_shiftLeft, Nat.shiftLeft_eq]
theorem pk_shlN {n : Nat} (s : Int32) (k : Nat) (hs : (s.toBitVec.smod 32).toNat = k) (h : n * 2 ^ k < 2 ^ 32) : nI n <<< s = nI (n * 2 ^ k) := by
  apply Int32.toBitVec_inj.mp
  apply BitVec.eq_of_toNat_eq
  have hn : n < 2 ^ 32 := Nat.lt_of_le_of_lt (Nat.le_mul_of_pos_right n (Nat.two_pow_pos k)) h
  rw [pk_shl _ _ k hs, pk_tn hn, pk_tn h, Nat.mod_eq_of_lt h]
theorem pk_shr (a s : Int32) (k : Nat) (hs : (s.toBitVec.smod 32).toNat = k) : (a >>> s).toInt = a.toInt >>> k := by
  show (a.toBitVec.sshiftRight (s.toBitVec.smod 32).toNat).toInt = _
  rw [hs, BitVec.toInt_sshiftRight]
  rfl
theorem pk_shrN {n : Nat} (h : n < 2 ^ 31) (s : Int32) (k : Nat) (hs : (s.toBitVec.smod 32).toNat = k) : nI n >>> s = nI (n / 2 ^ k) := by
  apply Int32.toInt_inj.mp
  have h2 : n / 2 ^ k ≤ n := Nat.div_le_self _ _
  rw [pk_shr _ _ k hs, nI_toInt h, nI_toInt (by omega), Int.shiftRight_eq_div_pow]
  rfl
theorem pk_ushr (x s : Int32) (k : Nat) (hs : ((s.toUInt32 &&& Int32.toUInt32 31).toBitVec % 32).toNat = k) : (x.toUInt32 >>> (s.toUInt32 &&& Int32.toUInt32 31)).toInt32.toBitVec.toNat = x.toBitVec.toNat / 2 ^ k := by
  have e : (x.toUInt32 >>> (s.toUInt32 &&& Int32.toUInt32 31)).toInt32.toBitVec = x.toBitVec >>> k := by
    rw [← hs]
    exact UInt32.toBitVec_shiftRight _ _
  rw [e, BitVec.toNat_ushiftRight, Nat.shiftRight_eq_div_pow]
theorem pk_ushrN {n : Nat} (hn : n < 2 ^ 32) (s : Int32) (k : Nat) (hs : ((s.toUInt32 &&& Int32.toUInt32 31).toBitVec % 32).toNat = k) : ((nI n).toUInt32 >>> (s.toUInt32 &&& Int32.toUInt32 31)).toInt32 = nI (n / 2 ^ k) := by
  apply Int32.toBitVec_inj.mp
  apply BitVec.eq_of_toNat_eq
  rw [pk_ushr _ s k hs, pk_tn hn, pk_tn (Nat.lt_of_le_of_lt (Nat.div_le_self _ _) hn)]
theorem pk_nb (z : Int32) : narrow .byte (.int z.toInt8.toInt32) = .int z.toInt8.toInt32 := congrArg Value.int (by simp)
theorem pk_ns (z : Int32) : narrow .short (.int z.toInt16.toInt32) = .int z.toInt16.toInt32 := congrArg Value.int (by simp)
theorem pk_fb (r : Int32) : fits .byte (.int r.toInt8.toInt32) = true := by
  have ⟨a, b⟩ := lg_i2b_range r
  have h1 : (-128 : Int32).toInt = -128 := by decide
  have h2 : (127 : Int32).toInt = 127 := by decide
  simp only [fits, Bool.and_eq_true, decide_eq_true_eq, Int32.le_iff_toInt_le, h1, h2]
  omega
theorem pk_fs (r : Int32) : fits .short (.int r.toInt16.toInt32) = true := by
  have ⟨a, b⟩ := lg_i2s_range r
  have h1 : (-32768 : Int32).toInt = -32768 := by decide
  have h2 : (32767 : Int32).toInt = 32767 := by decide
  simp only [fits, Bool.and_eq_true, decide_eq_true_eq, Int32.le_iff_toInt_le, h1, h2]
  omega
theorem pk_charN {q : Nat} (hq : q < 65536) : narrow .char (.int (nI q)) = .int (nI q) ∧ fits .char (.int (nI q)) = true := by
  constructor
  · have e : (nI q).toUInt32.toUInt16.toUInt32.toInt32 = nI q := by
      apply Int32.toBitVec_inj.mp
      apply BitVec.eq_of_toNat_eq
      show (nI q).toUInt32.toUInt16.toUInt32.toNat = q % 2 ^ 32
      rw [UInt16.toNat_toUInt32, UInt32.toNat_toUInt16, show (nI q).toUInt32.toNat = q % 2 ^ 32 from rfl]
      omega
    exact congrArg Value.int e
  · have a : (0 : Int32) ≤ nI q := nI_pos' (by omega)
    have b : nI q ≤ 65535 := nI_le (b := 65535) (by omega) (by decide)
    show (decide ((0 : Int32) ≤ nI q) && decide (nI q ≤ 65535)) = true
    rw [decide_eq_true a, decide_eq_true b]
    rfl
theorem pk_char (x : Int32) : (x.toUInt32 % 65536).toInt32 = nI (x.toBitVec.toNat % 65536) := by
  apply Int32.toBitVec_inj.mp
  apply BitVec.eq_of_toNat_eq
  rw [pk_tn (by omega)]
  show (x.toUInt32 % 65536).toNat = _
  rw [UInt32.toNat_mod]
  rfl
theorem pk_nc (x : Int32) : narrow .char (.int (x.toUInt32 % 65536).toInt32) = .int (x.toUInt32 % 65536).toInt32 := by
  rw [pk_char]
  exact (pk_charN (Nat.mod_lt _ (by decide))).1
theorem pk_fc (x : Int32) : fits .char (.int (x.toUInt32 % 65536).toInt32) = true := by
  rw [pk_char]
  exact (pk_charN (Nat.mod_lt _ (by decide))).2
theorem pk_vb (z : Int32) : vp_nar .byte z.toInt8.toInt32 = z.toInt8.toInt32 := by rw [vp_nar_byte]; simp
theorem pk_vs (z : Int32) : vp_nar .short z.toInt16.toInt32 = z.toInt16.toInt32 := by rw [vp_nar_short]; simp
theorem pk_vc (z : Int32) : vp_nar .char (z.toUInt32 % 65536).toInt32 = (z.toUInt32 % 65536).toInt32 := Value.int.inj (pk_nc z)
theorem pk_lT {n : Nat} (h : n < 2 ^ 63) : (lN n).toInt = (n : Int) := lg_ofNat_toInt h
theorem pk_lLT {a b : Nat} (ha : a < 2 ^ 63) (hb : b < 2 ^ 63) : lN a < lN b ↔ a < b := by
  rw [Int64.lt_iff_toInt_lt, pk_lT ha, pk_lT hb]; omega
theorem pk_lLE {a b : Nat} (ha : a < 2 ^ 63) (hb : b < 2 ^ 63) : lN a ≤ lN b ↔ a ≤ b := by
  rw [Int64.le_iff_toInt_le, pk_lT ha, pk_lT hb]; omega
theorem pk_lEQ {a b : Nat} (ha : a < 2 ^ 63) (hb : b < 2 ^ 63) : lN a = lN b ↔ a = b := by
  rw [← Int64.toInt_inj, pk_lT ha, pk_lT hb]; omega
theorem pk_lOf {x : Int64} (h : ¬ x < 0) : ∃ k : Nat, k < 2 ^ 63 ∧ x = lN k := by
  rw [Int64.lt_iff_toInt_lt] at h
  have h0 : (0 : Int64).toInt = 0 := by decide
  have hx := Int64.toInt_lt x
  refine ⟨x.toInt.toNat, by omega, Int64.toInt_inj.mp ?_⟩
  rw [pk_lT (by omega)]
  omega
theorem pk_lDiv {a b : Nat} (ha : a < 2 ^ 63) (h0 : 0 < b) (hb : b < 2 ^ 63) : lN a / lN b = lN (a / b) := by
  apply Int64.toInt_inj.mp
  rw [lg_ldiv_nonneg (by rw [pk_lT ha]; omega) (by rw [pk_lT hb]; omega), pk_lT ha, pk_lT hb, pk_lT (Nat.lt_of_le_of_lt (Nat.div_le_self a b) ha)]
  rfl
theorem pk_lRem {a b : Nat} (ha : a < 2 ^ 63) (h0 : 0 < b) (hb : b < 2 ^ 63) : lN a - lN a / lN b * lN b = lN (a % b) := by
  rw [pk_lDiv ha h0 hb, lN_mul, lN_sub (Nat.div_mul_le_self a b)]
  exact congrArg lN (by have := Nat.div_add_mod' a b; omega)
theorem pk_loop {σ : Type} (W : Nat → Nat → σ → Prop) (I : Nat → σ → Prop) (e i0 : Nat) (s : σ) (hi : i0 ≤ e) (h0 : I i0 s) (hx : ∀ n s, I e s → W (n + 1) e s)
    (hs : ∀ n i s, i < e → I i s → (∀ s', I (i + 1) s' → W n (i + 1) s') → W (n + 1) i s) : ∃ n, W n i0 s :=
  ⟨e + 1, loop_i W I e hx hs (e + 1) i0 s hi (by omega) h0⟩
theorem pk_loopD {σ : Type} (W : Nat → Nat → σ → Prop) (I : Nat → σ → Prop) (hx : ∀ n s, I 0 s → W (n + 1) 0 s)
    (hs : ∀ n i s, I (i + 1) s → (∀ s', I i s' → W n i s') → W (n + 1) (i + 1) s) : ∀ (e : Nat) (s : σ), I e s → W (e + 1) e s := by
  intro e
  induction e with
  | zero => exact fun s h => hx 0 s h
  | succ e ih => exact fun s h => hs (e + 1) e s h (fun s' h' => ih s' h')
theorem lp1 {A1 : Type} (W : Nat → A1 → Prop) (I : A1 → Prop) (μ : A1 → Nat) (hs : ∀ (n : Nat) (a1 : A1), I a1 → (∀ (b1 : A1), I b1 → μ b1 < μ a1 → W n b1) → W (n + 1) a1) (a1 : A1) (h : I a1) : ∃ n, W n a1 :=
  loop_m (σ := A1) (fun n s => W n s) (fun s => I s) (fun s => μ s) (fun n s hI hk => hs n s hI (fun b1 h9 hm => hk b1 h9 hm)) a1 h
theorem lp2 {A1 A2 : Type} (W : Nat → A1 → A2 → Prop) (I : A1 → A2 → Prop) (μ : A1 → A2 → Nat) (hs : ∀ (n : Nat) (a1 : A1) (a2 : A2), I a1 a2 → (∀ (b1 : A1) (b2 : A2), I b1 b2 → μ b1 b2 < μ a1 a2 → W n b1 b2) → W (n + 1) a1 a2) (a1 : A1) (a2 : A2) (h : I a1 a2) : ∃ n, W n a1 a2 :=
  loop_m (σ := A1 × A2) (fun n s => W n s.1 s.2) (fun s => I s.1 s.2) (fun s => μ s.1 s.2) (fun n s hI hk => hs n s.1 s.2 hI (fun b1 b2 h9 hm => hk (b1, b2) h9 hm)) (a1, a2) h
theorem lp3 {A1 A2 A3 : Type} (W : Nat → A1 → A2 → A3 → Prop) (I : A1 → A2 → A3 → Prop) (μ : A1 → A2 → A3 → Nat) (hs : ∀ (n : Nat) (a1 : A1) (a2 : A2) (a3 : A3), I a1 a2 a3 → (∀ (b1 : A1) (b2 : A2) (b3 : A3), I b1 b2 b3 → μ b1 b2 b3 < μ a1 a2 a3 → W n b1 b2 b3) → W (n + 1) a1 a2 a3) (a1 : A1) (a2 : A2) (a3 : A3) (h : I a1 a2 a3) : ∃ n, W n a1 a2 a3 :=
  loop_m (σ := A1 × A2 × A3) (fun n s => W n s.1 s.2.1 s.2.2) (fun s => I s.1 s.2.1 s.2.2) (fun s => μ s.1 s.2.1 s.2.2) (fun n s hI hk => hs n s.1 s.2.1 s.2.2 hI (fun b1 b2 b3 h9 hm => hk (b1, b2, b3) h9 hm)) (a1, a2, a3) h
theorem lp4 {A1 A2 A3 A4 : Type} (W : Nat → A1 → A2 → A3 → A4 → Prop) (I : A1 → A2 → A3 → A4 → Prop) (μ : A1 → A2 → A3 → A4 → Nat) (hs : ∀ (n : Nat) (a1 : A1) (a2 : A2) (a3 : A3) (a4 : A4), I a1 a2 a3 a4 → (∀ (b1 : A1) (b2 : A2) (b3 : A3) (b4 : A4), I b1 b2 b3 b4 → μ b1 b2 b3 b4 < μ a1 a2 a3 a4 → W n b1 b2 b3 b4) → W (n + 1) a1 a2 a3 a4) (a1 : A1) (a2 : A2) (a3 : A3) (a4 : A4) (h : I a1 a2 a3 a4) : ∃ n, W n a1 a2 a3 a4 :=
  loop_m (σ := A1 × A2 × A3 × A4) (fun n s => W n s.1 s.2.1 s.2.2.1 s.2.2.2) (fun s => I s.1 s.2.1 s.2.2.1 s.2.2.2) (fun s => μ s.1 s.2.1 s.2.2.1 s.2.2.2) (fun n s hI hk => hs n s.1 s.2.1 s.2.2.1 s.2.2.2 hI (fun b1 b2 b3 b4 h9 hm => hk (b1, b2, b3, b4) h9 hm)) (a1, a2, a3, a4) h
theorem lp5 {A1 A2 A3 A4 A5 : Type} (W : Nat → A1 → A2 → A3 → A4 → A5 → Prop) (I : A1 → A2 → A3 → A4 → A5 → Prop) (μ : A1 → A2 → A3 → A4 → A5 → Nat) (hs : ∀ (n : Nat) (a1 : A1) (a2 : A2) (a3 : A3) (a4 : A4) (a5 : A5), I a1 a2 a3 a4 a5 → (∀ (b1 : A1) (b2 : A2) (b3 : A3) (b4 : A4) (b5 : A5), I b1 b2 b3 b4 b5 → μ b1 b2 b3 b4 b5 < μ a1 a2 a3 a4 a5 → W n b1 b2 b3 b4 b5) → W (n + 1) a1 a2 a3 a4 a5) (a1 : A1) (a2 : A2) (a3 : A3) (a4 : A4) (a5 : A5) (h : I a1 a2 a3 a4 a5) : ∃ n, W n a1 a2 a3 a4 a5 :=
  loop_m (σ := A1 × A2 × A3 × A4 × A5) (fun n s => W n s.1 s.2.1 s.2.2.1 s.2.2.2.1 s.2.2.2.2) (fun s => I s.1 s.2.1 s.2.2.1 s.2.2.2.1 s.2.2.2.2) (fun s => μ s.1 s.2.1 s.2.2.1 s.2.2.2.1 s.2.2.2.2) (fun n s hI hk => hs n s.1 s.2.1 s.2.2.1 s.2.2.2.1 s.2.2.2.2 hI (fun b1 b2 b3 b4 b5 h9 hm => hk (b1, b2, b3, b4, b5) h9 hm)) (a1, a2, a3, a4, a5) h
theorem lp6 {A1 A2 A3 A4 A5 A6 : Type} (W : Nat → A1 → A2 → A3 → A4 → A5 → A6 → Prop) (I : A1 → A2 → A3 → A4 → A5 → A6 → Prop) (μ : A1 → A2 → A3 → A4 → A5 → A6 → Nat) (hs : ∀ (n : Nat) (a1 : A1) (a2 : A2) (a3 : A3) (a4 : A4) (a5 : A5) (a6 : A6), I a1 a2 a3 a4 a5 a6 → (∀ (b1 : A1) (b2 : A2) (b3 : A3) (b4 : A4) (b5 : A5) (b6 : A6), I b1 b2 b3 b4 b5 b6 → μ b1 b2 b3 b4 b5 b6 < μ a1 a2 a3 a4 a5 a6 → W n b1 b2 b3 b4 b5 b6) → W (n + 1) a1 a2 a3 a4 a5 a6) (a1 : A1) (a2 : A2) (a3 : A3) (a4 : A4) (a5 : A5) (a6 : A6) (h : I a1 a2 a3 a4 a5 a6) : ∃ n, W n a1 a2 a3 a4 a5 a6 :=
  loop_m (σ := A1 × A2 × A3 × A4 × A5 × A6) (fun n s => W n s.1 s.2.1 s.2.2.1 s.2.2.2.1 s.2.2.2.2.1 s.2.2.2.2.2) (fun s => I s.1 s.2.1 s.2.2.1 s.2.2.2.1 s.2.2.2.2.1 s.2.2.2.2.2) (fun s => μ s.1 s.2.1 s.2.2.1 s.2.2.2.1 s.2.2.2.2.1 s.2.2.2.2.2) (fun n s hI hk => hs n s.1 s.2.1 s.2.2.1 s.2.2.2.1 s.2.2.2.2.1 s.2.2.2.2.2 hI (fun b1 b2 b3 b4 b5 b6 h9 hm => hk (b1, b2, b3, b4, b5, b6) h9 hm)) (a1, a2, a3, a4, a5, a6) h
theorem lp7 {A1 A2 A3 A4 A5 A6 A7 : Type} (W : Nat → A1 → A2 → A3 → A4 → A5 → A6 → A7 → Prop) (I : A1 → A2 → A3 → A4 → A5 → A6 → A7 → Prop) (μ : A1 → A2 → A3 → A4 → A5 → A6 → A7 → Nat) (hs : ∀ (n : Nat) (a1 : A1) (a2 : A2) (a3 : A3) (a4 : A4) (a5 : A5) (a6 : A6) (a7 : A7), I a1 a2 a3 a4 a5 a6 a7 → (∀ (b1 : A1) (b2 : A2) (b3 : A3) (b4 : A4) (b5 : A5) (b6 : A6) (b7 : A7), I b1 b2 b3 b4 b5 b6 b7 → μ b1 b2 b3 b4 b5 b6 b7 < μ a1 a2 a3 a4 a5 a6 a7 → W n b1 b2 b3 b4 b5 b6 b7) → W (n + 1) a1 a2 a3 a4 a5 a6 a7) (a1 : A1) (a2 : A2) (a3 : A3) (a4 : A4) (a5 : A5) (a6 : A6) (a7 : A7) (h : I a1 a2 a3 a4 a5 a6 a7) : ∃ n, W n a1 a2 a3 a4 a5 a6 a7 :=
  loop_m (σ := A1 × A2 × A3 × A4 × A5 × A6 × A7) (fun n s => W n s.1 s.2.1 s.2.2.1 s.2.2.2.1 s.2.2.2.2.1 s.2.2.2.2.2.1 s.2.2.2.2.2.2) (fun s => I s.1 s.2.1 s.2.2.1 s.2.2.2.1 s.2.2.2.2.1 s.2.2.2.2.2.1 s.2.2.2.2.2.2) (fun s => μ s.1 s.2.1 s.2.2.1 s.2.2.2.1 s.2.2.2.2.1 s.2.2.2.2.2.1 s.2.2.2.2.2.2) (fun n s hI hk => hs n s.1 s.2.1 s.2.2.1 s.2.2.2.1 s.2.2.2.2.1 s.2.2.2.2.2.1 s.2.2.2.2.2.2 hI (fun b1 b2 b3 b4 b5 b6 b7 h9 hm => hk (b1, b2, b3, b4, b5, b6, b7) h9 hm)) (a1, a2, a3, a4, a5, a6, a7) h
theorem lp8 {A1 A2 A3 A4 A5 A6 A7 A8 : Type} (W : Nat → A1 → A2 → A3 → A4 → A5 → A6 → A7 → A8 → Prop) (I : A1 → A2 → A3 → A4 → A5 → A6 → A7 → A8 → Prop) (μ : A1 → A2 → A3 → A4 → A5 → A6 → A7 → A8 → Nat) (hs : ∀ (n : Nat) (a1 : A1) (a2 : A2) (a3 : A3) (a4 : A4) (a5 : A5) (a6 : A6) (a7 : A7) (a8 : A8), I a1 a2 a3 a4 a5 a6 a7 a8 → (∀ (b1 : A1) (b2 : A2) (b3 : A3) (b4 : A4) (b5 : A5) (b6 : A6) (b7 : A7) (b8 : A8), I b1 b2 b3 b4 b5 b6 b7 b8 → μ b1 b2 b3 b4 b5 b6 b7 b8 < μ a1 a2 a3 a4 a5 a6 a7 a8 → W n b1 b2 b3 b4 b5 b6 b7 b8) → W (n + 1) a1 a2 a3 a4 a5 a6 a7 a8) (a1 : A1) (a2 : A2) (a3 : A3) (a4 : A4) (a5 : A5) (a6 : A6) (a7 : A7) (a8 : A8) (h : I a1 a2 a3 a4 a5 a6 a7 a8) : ∃ n, W n a1 a2 a3 a4 a5 a6 a7 a8 :=
  loop_m (σ := A1 × A2 × A3 × A4 × A5 × A6 × A7 × A8) (fun n s => W n s.1 s.2.1 s.2.2.1 s.2.2.2.1 s.2.2.2.2.1 s.2.2.2.2.2.1 s.2.2.2.2.2.2.1 s.2.2.2.2.2.2.2) (fun s => I s.1 s.2.1 s.2.2.1 s.2.2.2.1 s.2.2.2.2.1 s.2.2.2.2.2.1 s.2.2.2.2.2.2.1 s.2.2.2.2.2.2.2) (fun s => μ s.1 s.2.1 s.2.2.1 s.2.2.2.1 s.2.2.2.2.1 s.2.2.2.2.2.1 s.2.2.2.2.2.2.1 s.2.2.2.2.2.2.2) (fun n s hI hk => hs n s.1 s.2.1 s.2.2.1 s.2.2.2.1 s.2.2.2.2.1 s.2.2.2.2.2.1 s.2.2.2.2.2.2.1 s.2.2.2.2.2.2.2 hI (fun b1 b2 b3 b4 b5 b6 b7 b8 h9 hm => hk (b1, b2, b3, b4, b5, b6, b7, b8) h9 hm)) (a1, a2, a3, a4, a5, a6, a7, a8) h
theorem lp9 {A1 A2 A3 A4 A5 A6 A7 A8 A9 : Type} (W : Nat → A1 → A2 → A3 → A4 → A5 → A6 → A7 → A8 → A9 → Prop) (I : A1 → A2 → A3 → A4 → A5 → A6 → A7 → A8 → A9 → Prop) (μ : A1 → A2 → A3 → A4 → A5 → A6 → A7 → A8 → A9 → Nat) (hs : ∀ (n : Nat) (a1 : A1) (a2 : A2) (a3 : A3) (a4 : A4) (a5 : A5) (a6 : A6) (a7 : A7) (a8 : A8) (a9 : A9), I a1 a2 a3 a4 a5 a6 a7 a8 a9 → (∀ (b1 : A1) (b2 : A2) (b3 : A3) (b4 : A4) (b5 : A5) (b6 : A6) (b7 : A7) (b8 : A8) (b9 : A9), I b1 b2 b3 b4 b5 b6 b7 b8 b9 → μ b1 b2 b3 b4 b5 b6 b7 b8 b9 < μ a1 a2 a3 a4 a5 a6 a7 a8 a9 → W n b1 b2 b3 b4 b5 b6 b7 b8 b9) → W (n + 1) a1 a2 a3 a4 a5 a6 a7 a8 a9) (a1 : A1) (a2 : A2) (a3 : A3) (a4 : A4) (a5 : A5) (a6 : A6) (a7 : A7) (a8 : A8) (a9 : A9) (h : I a1 a2 a3 a4 a5 a6 a7 a8 a9) : ∃ n, W n a1 a2 a3 a4 a5 a6 a7 a8 a9 :=
  loop_m (σ := A1 × A2 × A3 × A4 × A5 × A6 × A7 × A8 × A9) (fun n s => W n s.1 s.2.1 s.2.2.1 s.2.2.2.1 s.2.2.2.2.1 s.2.2.2.2.2.1 s.2.2.2.2.2.2.1 s.2.2.2.2.2.2.2.1 s.2.2.2.2.2.2.2.2) (fun s => I s.1 s.2.1 s.2.2.1 s.2.2.2.1 s.2.2.2.2.1 s.2.2.2.2.2.1 s.2.2.2.2.2.2.1 s.2.2.2.2.2.2.2.1 s.2.2.2.2.2.2.2.2) (fun s => μ s.1 s.2.1 s.2.2.1 s.2.2.2.1 s.2.2.2.2.1 s.2.2.2.2.2.1 s.2.2.2.2.2.2.1 s.2.2.2.2.2.2.2.1 s.2.2.2.2.2.2.2.2) (fun n s hI hk => hs n s.1 s.2.1 s.2.2.1 s.2.2.2.1 s.2.2.2.2.1 s.2.2.2.2.2.1 s.2.2.2.2.2.2.1 s.2.2.2.2.2.2.2.1 s.2.2.2.2.2.2.2.2 hI (fun b1 b2 b3 b4 b5 b6 b7 b8 b9 h9 hm => hk (b1, b2, b3, b4, b5, b6, b7, b8, b9) h9 hm)) (a1, a2, a3, a4, a5, a6, a7, a8, a9) h
theorem lp10 {A1 A2 A3 A4 A5 A6 A7 A8 A9 A10 : Type} (W : Nat → A1 → A2 → A3 → A4 → A5 → A6 → A7 → A8 → A9 → A10 → Prop) (I : A1 → A2 → A3 → A4 → A5 → A6 → A7 → A8 → A9 → A10 → Prop) (μ : A1 → A2 → A3 → A4 → A5 → A6 → A7 → A8 → A9 → A10 → Nat) (hs : ∀ (n : Nat) (a1 : A1) (a2 : A2) (a3 : A3) (a4 : A4) (a5 : A5) (a6 : A6) (a7 : A7) (a8 : A8) (a9 : A9) (a10 : A10), I a1 a2 a3 a4 a5 a6 a7 a8 a9 a10 → (∀ (b1 : A1) (b2 : A2) (b3 : A3) (b4 : A4) (b5 : A5) (b6 : A6) (b7 : A7) (b8 : A8) (b9 : A9) (b10 : A10), I b1 b2 b3 b4 b5 b6 b7 b8 b9 b10 → μ b1 b2 b3 b4 b5 b6 b7 b8 b9 b10 < μ a1 a2 a3 a4 a5 a6 a7 a8 a9 a10 → W n b1 b2 b3 b4 b5 b6 b7 b8 b9 b10) → W (n + 1) a1 a2 a3 a4 a5 a6 a7 a8 a9 a10) (a1 : A1) (a2 : A2) (a3 : A3) (a4 : A4) (a5 : A5) (a6 : A6) (a7 : A7) (a8 : A8) (a9 : A9) (a10 : A10) (h : I a1 a2 a3 a4 a5 a6 a7 a8 a9 a10) : ∃ n, W n a1 a2 a3 a4 a5 a6 a7 a8 a9 a10 :=
  loop_m (σ := A1 × A2 × A3 × A4 × A5 × A6 × A7 × A8 × A9 × A10) (fun n s => W n s.1 s.2.1 s.2.2.1 s.2.2.2.1 s.2.2.2.2.1 s.2.2.2.2.2.1 s.2.2.2.2.2.2.1 s.2.2.2.2.2.2.2.1 s.2.2.2.2.2.2.2.2.1 s.2.2.2.2.2.2.2.2.2) (fun s => I s.1 s.2.1 s.2.2.1 s.2.2.2.1 s.2.2.2.2.1 s.2.2.2.2.2.1 s.2.2.2.2.2.2.1 s.2.2.2.2.2.2.2.1 s.2.2.2.2.2.2.2.2.1 s.2.2.2.2.2.2.2.2.2) (fun s => μ s.1 s.2.1 s.2.2.1 s.2.2.2.1 s.2.2.2.2.1 s.2.2.2.2.2.1 s.2.2.2.2.2.2.1 s.2.2.2.2.2.2.2.1 s.2.2.2.2.2.2.2.2.1 s.2.2.2.2.2.2.2.2.2) (fun n s hI hk => hs n s.1 s.2.1 s.2.2.1 s.2.2.2.1 s.2.2.2.2.1 s.2.2.2.2.2.1 s.2.2.2.2.2.2.1 s.2.2.2.2.2.2.2.1 s.2.2.2.2.2.2.2.2.1 s.2.2.2.2.2.2.2.2.2 hI (fun b1 b2 b3 b4 b5 b6 b7 b8 b9 b10 h9 hm => hk (b1, b2, b3, b4, b5, b6, b7, b8, b9, b10) h9 hm)) (a1, a2, a3, a4, a5, a6, a7, a8, a9, a10) h
theorem lp11 {A1 A2 A3 A4 A5 A6 A7 A8 A9 A10 A11 : Type} (W : Nat → A1 → A2 → A3 → A4 → A5 → A6 → A7 → A8 → A9 → A10 → A11 → Prop) (I : A1 → A2 → A3 → A4 → A5 → A6 → A7 → A8 → A9 → A10 → A11 → Prop) (μ : A1 → A2 → A3 → A4 → A5 → A6 → A7 → A8 → A9 → A10 → A11 → Nat) (hs : ∀ (n : Nat) (a1 : A1) (a2 : A2) (a3 : A3) (a4 : A4) (a5 : A5) (a6 : A6) (a7 : A7) (a8 : A8) (a9 : A9) (a10 : A10) (a11 : A11), I a1 a2 a3 a4 a5 a6 a7 a8 a9 a10 a11 → (∀ (b1 : A1) (b2 : A2) (b3 : A3) (b4 : A4) (b5 : A5) (b6 : A6) (b7 : A7) (b8 : A8) (b9 : A9) (b10 : A10) (b11 : A11), I b1 b2 b3 b4 b5 b6 b7 b8 b9 b10 b11 → μ b1 b2 b3 b4 b5 b6 b7 b8 b9 b10 b11 < μ a1 a2 a3 a4 a5 a6 a7 a8 a9 a10 a11 → W n b1 b2 b3 b4 b5 b6 b7 b8 b9 b10 b11) → W (n + 1) a1 a2 a3 a4 a5 a6 a7 a8 a9 a10 a11) (a1 : A1) (a2 : A2) (a3 : A3) (a4 : A4) (a5 : A5) (a6 : A6) (a7 : A7) (a8 : A8) (a9 : A9) (a10 : A10) (a11 : A11) (h : I a1 a2 a3 a4 a5 a6 a7 a8 a9 a10 a11) : ∃ n, W n a1 a2 a3 a4 a5 a6 a7 a8 a9 a10 a11 :=
  loop_m (σ := A1 × A2 × A3 × A4 × A5 × A6 × A7 × A8 × A9 × A10 × A11) (fun n s => W n s.1 s.2.1 s.2.2.1 s.2.2.2.1 s.2.2.2.2.1 s.2.2.2.2.2.1 s.2.2.2.2.2.2.1 s.2.2.2.2.2.2.2.1 s.2.2.2.2.2.2.2.2.1 s.2.2.2.2.2.2.2.2.2.1 s.2.2.2.2.2.2.2.2.2.2) (fun s => I s.1 s.2.1 s.2.2.1 s.2.2.2.1 s.2.2.2.2.1 s.2.2.2.2.2.1 s.2.2.2.2.2.2.1 s.2.2.2.2.2.2.2.1 s.2.2.2.2.2.2.2.2.1 s.2.2.2.2.2.2.2.2.2.1 s.2.2.2.2.2.2.2.2.2.2) (fun s => μ s.1 s.2.1 s.2.2.1 s.2.2.2.1 s.2.2.2.2.1 s.2.2.2.2.2.1 s.2.2.2.2.2.2.1 s.2.2.2.2.2.2.2.1 s.2.2.2.2.2.2.2.2.1 s.2.2.2.2.2.2.2.2.2.1 s.2.2.2.2.2.2.2.2.2.2) (fun n s hI hk => hs n s.1 s.2.1 s.2.2.1 s.2.2.2.1 s.2.2.2.2.1 s.2.2.2.2.2.1 s.2.2.2.2.2.2.1 s.2.2.2.2.2.2.2.1 s.2.2.2.2.2.2.2.2.1 s.2.2.2.2.2.2.2.2.2.1 s.2.2.2.2.2.2.2.2.2.2 hI (fun b1 b2 b3 b4 b5 b6 b7 b8 b9 b10 b11 h9 hm => hk (b1, b2, b3, b4, b5, b6, b7, b8, b9, b10, b11) h9 hm)) (a1, a2, a3, a4, a5, a6, a7, a8, a9, a10, a11) h
theorem lp12 {A1 A2 A3 A4 A5 A6 A7 A8 A9 A10 A11 A12 : Type} (W : Nat → A1 → A2 → A3 → A4 → A5 → A6 → A7 → A8 → A9 → A10 → A11 → A12 → Prop) (I : A1 → A2 → A3 → A4 → A5 → A6 → A7 → A8 → A9 → A10 → A11 → A12 → Prop) (μ : A1 → A2 → A3 → A4 → A5 → A6 → A7 → A8 → A9 → A10 → A11 → A12 → Nat) (hs : ∀ (n : Nat) (a1 : A1) (a2 : A2) (a3 : A3) (a4 : A4) (a5 : A5) (a6 : A6) (a7 : A7) (a8 : A8) (a9 : A9) (a10 : A10) (a11 : A11) (a12 : A12), I a1 a2 a3 a4 a5 a6 a7 a8 a9 a10 a11 a12 → (∀ (b1 : A1) (b2 : A2) (b3 : A3) (b4 : A4) (b5 : A5) (b6 : A6) (b7 : A7) (b8 : A8) (b9 : A9) (b10 : A10) (b11 : A11) (b12 : A12), I b1 b2 b3 b4 b5 b6 b7 b8 b9 b10 b11 b12 → μ b1 b2 b3 b4 b5 b6 b7 b8 b9 b10 b11 b12 < μ a1 a2 a3 a4 a5 a6 a7 a8 a9 a10 a11 a12 → W n b1 b2 b3 b4 b5 b6 b7 b8 b9 b10 b11 b12) → W (n + 1) a1 a2 a3 a4 a5 a6 a7 a8 a9 a10 a11 a12) (a1 : A1) (a2 : A2) (a3 : A3) (a4 : A4) (a5 : A5) (a6 : A6) (a7 : A7) (a8 : A8) (a9 : A9) (a10 : A10) (a11 : A11) (a12 : A12) (h : I a1 a2 a3 a4 a5 a6 a7 a8 a9 a10 a11 a12) : ∃ n, W n a1 a2 a3 a4 a5 a6 a7 a8 a9 a10 a11 a12 :=
  loop_m (σ := A1 × A2 × A3 × A4 × A5 × A6 × A7 × A8 × A9 × A10 × A11 × A12) (fun n s => W n s.1 s.2.1 s.2.2.1 s.2.2.2.1 s.2.2.2.2.1 s.2.2.2.2.2.1 s.2.2.2.2.2.2.1 s.2.2.2.2.2.2.2.1 s.2.2.2.2.2.2.2.2.1 s.2.2.2.2.2.2.2.2.2.1 s.2.2.2.2.2.2.2.2.2.2.1 s.2.2.2.2.2.2.2.2.2.2.2) (fun s => I s.1 s.2.1 s.2.2.1 s.2.2.2.1 s.2.2.2.2.1 s.2.2.2.2.2.1 s.2.2.2.2.2.2.1 s.2.2.2.2.2.2.2.1 s.2.2.2.2.2.2.2.2.1 s.2.2.2.2.2.2.2.2.2.1 s.2.2.2.2.2.2.2.2.2.2.1 s.2.2.2.2.2.2.2.2.2.2.2) (fun s => μ s.1 s.2.1 s.2.2.1 s.2.2.2.1 s.2.2.2.2.1 s.2.2.2.2.2.1 s.2.2.2.2.2.2.1 s.2.2.2.2.2.2.2.1 s.2.2.2.2.2.2.2.2.1 s.2.2.2.2.2.2.2.2.2.1 s.2.2.2.2.2.2.2.2.2.2.1 s.2.2.2.2.2.2.2.2.2.2.2) (fun n s hI hk => hs n s.1 s.2.1 s.2.2.1 s.2.2.2.1 s.2.2.2.2.1 s.2.2.2.2.2.1 s.2.2.2.2.2.2.1 s.2.2.2.2.2.2.2.1 s.2.2.2.2.2.2.2.2.1 s.2.2.2.2.2.2.2.2.2.1 s.2.2.2.2.2.2.2.2.2.2.1 s.2.2.2.2.2.2.2.2.2.2.2 hI (fun b1 b2 b3 b4 b5 b6 b7 b8 b9 b10 b11 b12 h9 hm => hk (b1, b2, b3, b4, b5, b6, b7, b8, b9, b10, b11, b12) h9 hm)) (a1, a2, a3, a4, a5, a6, a7, a8, a9, a10, a11, a12) h
theorem lp13 {A1 A2 A3 A4 A5 A6 A7 A8 A9 A10 A11 A12 A13 : Type} (W : Nat → A1 → A2 → A3 → A4 → A5 → A6 → A7 → A8 → A9 → A10 → A11 → A12 → A13 → Prop) (I : A1 → A2 → A3 → A4 → A5 → A6 → A7 → A8 → A9 → A10 → A11 → A12 → A13 → Prop) (μ : A1 → A2 → A3 → A4 → A5 → A6 → A7 → A8 → A9 → A10 → A11 → A12 → A13 → Nat) (hs : ∀ (n : Nat) (a1 : A1) (a2 : A2) (a3 : A3) (a4 : A4) (a5 : A5) (a6 : A6) (a7 : A7) (a8 : A8) (a9 : A9) (a10 : A10) (a11 : A11) (a12 : A12) (a13 : A13), I a1 a2 a3 a4 a5 a6 a7 a8 a9 a10 a11 a12 a13 → (∀ (b1 : A1) (b2 : A2) (b3 : A3) (b4 : A4) (b5 : A5) (b6 : A6) (b7 : A7) (b8 : A8) (b9 : A9) (b10 : A10) (b11 : A11) (b12 : A12) (b13 : A13), I b1 b2 b3 b4 b5 b6 b7 b8 b9 b10 b11 b12 b13 → μ b1 b2 b3 b4 b5 b6 b7 b8 b9 b10 b11 b12 b13 < μ a1 a2 a3 a4 a5 a6 a7 a8 a9 a10 a11 a12 a13 → W n b1 b2 b3 b4 b5 b6 b7 b8 b9 b10 b11 b12 b13) → W (n + 1) a1 a2 a3 a4 a5 a6 a7 a8 a9 a10 a11 a12 a13) (a1 : A1) (a2 : A2) (a3 : A3) (a4 : A4) (a5 : A5) (a6 : A6) (a7 : A7) (a8 : A8) (a9 : A9) (a10 : A10) (a11 : A11) (a12 : A12) (a13 : A13) (h : I a1 a2 a3 a4 a5 a6 a7 a8 a9 a10 a11 a12 a13) : ∃ n, W n a1 a2 a3 a4 a5 a6 a7 a8 a9 a10 a11 a12 a13 :=
  loop_m (σ := A1 × A2 × A3 × A4 × A5 × A6 × A7 × A8 × A9 × A10 × A11 × A12 × A13) (fun n s => W n s.1 s.2.1 s.2.2.1 s.2.2.2.1 s.2.2.2.2.1 s.2.2.2.2.2.1 s.2.2.2.2.2.2.1 s.2.2.2.2.2.2.2.1 s.2.2.2.2.2.2.2.2.1 s.2.2.2.2.2.2.2.2.2.1 s.2.2.2.2.2.2.2.2.2.2.1 s.2.2.2.2.2.2.2.2.2.2.2.1 s.2.2.2.2.2.2.2.2.2.2.2.2) (fun s => I s.1 s.2.1 s.2.2.1 s.2.2.2.1 s.2.2.2.2.1 s.2.2.2.2.2.1 s.2.2.2.2.2.2.1 s.2.2.2.2.2.2.2.1 s.2.2.2.2.2.2.2.2.1 s.2.2.2.2.2.2.2.2.2.1 s.2.2.2.2.2.2.2.2.2.2.1 s.2.2.2.2.2.2.2.2.2.2.2.1 s.2.2.2.2.2.2.2.2.2.2.2.2) (fun s => μ s.1 s.2.1 s.2.2.1 s.2.2.2.1 s.2.2.2.2.1 s.2.2.2.2.2.1 s.2.2.2.2.2.2.1 s.2.2.2.2.2.2.2.1 s.2.2.2.2.2.2.2.2.1 s.2.2.2.2.2.2.2.2.2.1 s.2.2.2.2.2.2.2.2.2.2.1 s.2.2.2.2.2.2.2.2.2.2.2.1 s.2.2.2.2.2.2.2.2.2.2.2.2) (fun n s hI hk => hs n s.1 s.2.1 s.2.2.1 s.2.2.2.1 s.2.2.2.2.1 s.2.2.2.2.2.1 s.2.2.2.2.2.2.1 s.2.2.2.2.2.2.2.1 s.2.2.2.2.2.2.2.2.1 s.2.2.2.2.2.2.2.2.2.1 s.2.2.2.2.2.2.2.2.2.2.1 s.2.2.2.2.2.2.2.2.2.2.2.1 s.2.2.2.2.2.2.2.2.2.2.2.2 hI (fun b1 b2 b3 b4 b5 b6 b7 b8 b9 b10 b11 b12 b13 h9 hm => hk (b1, b2, b3, b4, b5, b6, b7, b8, b9, b10, b11, b12, b13) h9 hm)) (a1, a2, a3, a4, a5, a6, a7, a8, a9, a10, a11, a12, a13) h
theorem lp14 {A1 A2 A3 A4 A5 A6 A7 A8 A9 A10 A11 A12 A13 A14 : Type} (W : Nat → A1 → A2 → A3 → A4 → A5 → A6 → A7 → A8 → A9 → A10 → A11 → A12 → A13 → A14 → Prop) (I : A1 → A2 → A3 → A4 → A5 → A6 → A7 → A8 → A9 → A10 → A11 → A12 → A13 → A14 → Prop) (μ : A1 → A2 → A3 → A4 → A5 → A6 → A7 → A8 → A9 → A10 → A11 → A12 → A13 → A14 → Nat) (hs : ∀ (n : Nat) (a1 : A1) (a2 : A2) (a3 : A3) (a4 : A4) (a5 : A5) (a6 : A6) (a7 : A7) (a8 : A8) (a9 : A9) (a10 : A10) (a11 : A11) (a12 : A12) (a13 : A13) (a14 : A14), I a1 a2 a3 a4 a5 a6 a7 a8 a9 a10 a11 a12 a13 a14 → (∀ (b1 : A1) (b2 : A2) (b3 : A3) (b4 : A4) (b5 : A5) (b6 : A6) (b7 : A7) (b8 : A8) (b9 : A9) (b10 : A10) (b11 : A11) (b12 : A12) (b13 : A13) (b14 : A14), I b1 b2 b3 b4 b5 b6 b7 b8 b9 b10 b11 b12 b13 b14 → μ b1 b2 b3 b4 b5 b6 b7 b8 b9 b10 b11 b12 b13 b14 < μ a1 a2 a3 a4 a5 a6 a7 a8 a9 a10 a11 a12 a13 a14 → W n b1 b2 b3 b4 b5 b6 b7 b8 b9 b10 b11 b12 b13 b14) → W (n + 1) a1 a2 a3 a4 a5 a6 a7 a8 a9 a10 a11 a12 a13 a14) (a1 : A1) (a2 : A2) (a3 : A3) (a4 : A4) (a5 : A5) (a6 : A6) (a7 : A7) (a8 : A8) (a9 : A9) (a10 : A10) (a11 : A11) (a12 : A12) (a13 : A13) (a14 : A14) (h : I a1 a2 a3 a4 a5 a6 a7 a8 a9 a10 a11 a12 a13 a14) : ∃ n, W n a1 a2 a3 a4 a5 a6 a7 a8 a9 a10 a11 a12 a13 a14 :=
  loop_m (σ := A1 × A2 × A3 × A4 × A5 × A6 × A7 × A8 × A9 × A10 × A11 × A12 × A13 × A14) (fun n s => W n s.1 s.2.1 s.2.2.1 s.2.2.2.1 s.2.2.2.2.1 s.2.2.2.2.2.1 s.2.2.2.2.2.2.1 s.2.2.2.2.2.2.2.1 s.2.2.2.2.2.2.2.2.1 s.2.2.2.2.2.2.2.2.2.1 s.2.2.2.2.2.2.2.2.2.2.1 s.2.2.2.2.2.2.2.2.2.2.2.1 s.2.2.2.2.2.2.2.2.2.2.2.2.1 s.2.2.2.2.2.2.2.2.2.2.2.2.2) (fun s => I s.1 s.2.1 s.2.2.1 s.2.2.2.1 s.2.2.2.2.1 s.2.2.2.2.2.1 s.2.2.2.2.2.2.1 s.2.2.2.2.2.2.2.1 s.2.2.2.2.2.2.2.2.1 s.2.2.2.2.2.2.2.2.2.1 s.2.2.2.2.2.2.2.2.2.2.1 s.2.2.2.2.2.2.2.2.2.2.2.1 s.2.2.2.2.2.2.2.2.2.2.2.2.1 s.2.2.2.2.2.2.2.2.2.2.2.2.2) (fun s => μ s.1 s.2.1 s.2.2.1 s.2.2.2.1 s.2.2.2.2.1 s.2.2.2.2.2.1 s.2.2.2.2.2.2.1 s.2.2.2.2.2.2.2.1 s.2.2.2.2.2.2.2.2.1 s.2.2.2.2.2.2.2.2.2.1 s.2.2.2.2.2.2.2.2.2.2.1 s.2.2.2.2.2.2.2.2.2.2.2.1 s.2.2.2.2.2.2.2.2.2.2.2.2.1 s.2.2.2.2.2.2.2.2.2.2.2.2.2) (fun n s hI hk => hs n s.1 s.2.1 s.2.2.1 s.2.2.2.1 s.2.2.2.2.1 s.2.2.2.2.2.1 s.2.2.2.2.2.2.1 s.2.2.2.2.2.2.2.1 s.2.2.2.2.2.2.2.2.1 s.2.2.2.2.2.2.2.2.2.1 s.2.2.2.2.2.2.2.2.2.2.1 s.2.2.2.2.2.2.2.2.2.2.2.1 s.2.2.2.2.2.2.2.2.2.2.2.2.1 s.2.2.2.2.2.2.2.2.2.2.2.2.2 hI (fun b1 b2 b3 b4 b5 b6 b7 b8 b9 b10 b11 b12 b13 b14 h9 hm => hk (b1, b2, b3, b4, b5, b6, b7, b8, b9, b10, b11, b12, b13, b14) h9 hm)) (a1, a2, a3, a4, a5, a6, a7, a8, a9, a10, a11, a12, a13, a14) h
theorem lp15 {A1 A2 A3 A4 A5 A6 A7 A8 A9 A10 A11 A12 A13 A14 A15 : Type} (W : Nat → A1 → A2 → A3 → A4 → A5 → A6 → A7 → A8 → A9 → A10 → A11 → A12 → A13 → A14 → A15 → Prop) (I : A1 → A2 → A3 → A4 → A5 → A6 → A7 → A8 → A9 → A10 → A11 → A12 → A13 → A14 → A15 → Prop) (μ : A1 → A2 → A3 → A4 → A5 → A6 → A7 → A8 → A9 → A10 → A11 → A12 → A13 → A14 → A15 → Nat) (hs : ∀ (n : Nat) (a1 : A1) (a2 : A2) (a3 : A3) (a4 : A4) (a5 : A5) (a6 : A6) (a7 : A7) (a8 : A8) (a9 : A9) (a10 : A10) (a11 : A11) (a12 : A12) (a13 : A13) (a14 : A14) (a15 : A15), I a1 a2 a3 a4 a5 a6 a7 a8 a9 a10 a11 a12 a13 a14 a15 → (∀ (b1 : A1) (b2 : A2) (b3 : A3) (b4 : A4) (b5 : A5) (b6 : A6) (b7 : A7) (b8 : A8) (b9 : A9) (b10 : A10) (b11 : A11) (b12 : A12) (b13 : A13) (b14 : A14) (b15 : A15), I b1 b2 b3 b4 b5 b6 b7 b8 b9 b10 b11 b12 b13 b14 b15 → μ b1 b2 b3 b4 b5 b6 b7 b8 b9 b10 b11 b12 b13 b14 b15 < μ a1 a2 a3 a4 a5 a6 a7 a8 a9 a10 a11 a12 a13 a14 a15 → W n b1 b2 b3 b4 b5 b6 b7 b8 b9 b10 b11 b12 b13 b14 b15) → W (n + 1) a1 a2 a3 a4 a5 a6 a7 a8 a9 a10 a11 a12 a13 a14 a15) (a1 : A1) (a2 : A2) (a3 : A3) (a4 : A4) (a5 : A5) (a6 : A6) (a7 : A7) (a8 : A8) (a9 : A9) (a10 : A10) (a11 : A11) (a12 : A12) (a13 : A13) (a14 : A14) (a15 : A15) (h : I a1 a2 a3 a4 a5 a6 a7 a8 a9 a10 a11 a12 a13 a14 a15) : ∃ n, W n a1 a2 a3 a4 a5 a6 a7 a8 a9 a10 a11 a12 a13 a14 a15 :=
  loop_m (σ := A1 × A2 × A3 × A4 × A5 × A6 × A7 × A8 × A9 × A10 × A11 × A12 × A13 × A14 × A15) (fun n s => W n s.1 s.2.1 s.2.2.1 s.2.2.2.1 s.2.2.2.2.1 s.2.2.2.2.2.1 s.2.2.2.2.2.2.1 s.2.2.2.2.2.2.2.1 s.2.2.2.2.2.2.2.2.1 s.2.2.2.2.2.2.2.2.2.1 s.2.2.2.2.2.2.2.2.2.2.1 s.2.2.2.2.2.2.2.2.2.2.2.1 s.2.2.2.2.2.2.2.2.2.2.2.2.1 s.2.2.2.2.2.2.2.2.2.2.2.2.2.1 s.2.2.2.2.2.2.2.2.2.2.2.2.2.2) (fun s => I s.1 s.2.1 s.2.2.1 s.2.2.2.1 s.2.2.2.2.1 s.2.2.2.2.2.1 s.2.2.2.2.2.2.1 s.2.2.2.2.2.2.2.1 s.2.2.2.2.2.2.2.2.1 s.2.2.2.2.2.2.2.2.2.1 s.2.2.2.2.2.2.2.2.2.2.1 s.2.2.2.2.2.2.2.2.2.2.2.1 s.2.2.2.2.2.2.2.2.2.2.2.2.1 s.2.2.2.2.2.2.2.2.2.2.2.2.2.1 s.2.2.2.2.2.2.2.2.2.2.2.2.2.2) (fun s => μ s.1 s.2.1 s.2.2.1 s.2.2.2.1 s.2.2.2.2.1 s.2.2.2.2.2.1 s.2.2.2.2.2.2.1 s.2.2.2.2.2.2.2.1 s.2.2.2.2.2.2.2.2.1 s.2.2.2.2.2.2.2.2.2.1 s.2.2.2.2.2.2.2.2.2.2.1 s.2.2.2.2.2.2.2.2.2.2.2.1 s.2.2.2.2.2.2.2.2.2.2.2.2.1 s.2.2.2.2.2.2.2.2.2.2.2.2.2.1 s.2.2.2.2.2.2.2.2.2.2.2.2.2.2) (fun n s hI hk => hs n s.1 s.2.1 s.2.2.1 s.2.2.2.1 s.2.2.2.2.1 s.2.2.2.2.2.1 s.2.2.2.2.2.2.1 s.2.2.2.2.2.2.2.1 s.2.2.2.2.2.2.2.2.1 s.2.2.2.2.2.2.2.2.2.1 s.2.2.2.2.2.2.2.2.2.2.1 s.2.2.2.2.2.2.2.2.2.2.2.1 s.2.2.2.2.2.2.2.2.2.2.2.2.1 s.2.2.2.2.2.2.2.2.2.2.2.2.2.1 s.2.2.2.2.2.2.2.2.2.2.2.2.2.2 hI (fun b1 b2 b3 b4 b5 b6 b7 b8 b9 b10 b11 b12 b13 b14 b15 h9 hm => hk (b1, b2, b3, b4, b5, b6, b7, b8, b9, b10, b11, b12, b13, b14, b15) h9 hm)) (a1, a2, a3, a4, a5, a6, a7, a8, a9, a10, a11, a12, a13, a14, a15) h
theorem lp16 {A1 A2 A3 A4 A5 A6 A7 A8 A9 A10 A11 A12 A13 A14 A15 A16 : Type} (W : Nat → A1 → A2 → A3 → A4 → A5 → A6 → A7 → A8 → A9 → A10 → A11 → A12 → A13 → A14 → A15 → A16 → Prop) (I : A1 → A2 → A3 → A4 → A5 → A6 → A7 → A8 → A9 → A10 → A11 → A12 → A13 → A14 → A15 → A16 → Prop) (μ : A1 → A2 → A3 → A4 → A5 → A6 → A7 → A8 → A9 → A10 → A11 → A12 → A13 → A14 → A15 → A16 → Nat) (hs : ∀ (n : Nat) (a1 : A1) (a2 : A2) (a3 : A3) (a4 : A4) (a5 : A5) (a6 : A6) (a7 : A7) (a8 : A8) (a9 : A9) (a10 : A10) (a11 : A11) (a12 : A12) (a13 : A13) (a14 : A14) (a15 : A15) (a16 : A16), I a1 a2 a3 a4 a5 a6 a7 a8 a9 a10 a11 a12 a13 a14 a15 a16 → (∀ (b1 : A1) (b2 : A2) (b3 : A3) (b4 : A4) (b5 : A5) (b6 : A6) (b7 : A7) (b8 : A8) (b9 : A9) (b10 : A10) (b11 : A11) (b12 : A12) (b13 : A13) (b14 : A14) (b15 : A15) (b16 : A16), I b1 b2 b3 b4 b5 b6 b7 b8 b9 b10 b11 b12 b13 b14 b15 b16 → μ b1 b2 b3 b4 b5 b6 b7 b8 b9 b10 b11 b12 b13 b14 b15 b16 < μ a1 a2 a3 a4 a5 a6 a7 a8 a9 a10 a11 a12 a13 a14 a15 a16 → W n b1 b2 b3 b4 b5 b6 b7 b8 b9 b10 b11 b12 b13 b14 b15 b16) → W (n + 1) a1 a2 a3 a4 a5 a6 a7 a8 a9 a10 a11 a12 a13 a14 a15 a16) (a1 : A1) (a2 : A2) (a3 : A3) (a4 : A4) (a5 : A5) (a6 : A6) (a7 : A7) (a8 : A8) (a9 : A9) (a10 : A10) (a11 : A11) (a12 : A12) (a13 : A13) (a14 : A14) (a15 : A15) (a16 : A16) (h : I a1 a2 a3 a4 a5 a6 a7 a8 a9 a10 a11 a12 a13 a14 a15 a16) : ∃ n, W n a1 a2 a3 a4 a5 a6 a7 a8 a9 a10 a11 a12 a13 a14 a15 a16 :=
  loop_m (σ := A1 × A2 × A3 × A4 × A5 × A6 × A7 × A8 × A9 × A10 × A11 × A12 × A13 × A14 × A15 × A16) (fun n s => W n s.1 s.2.1 s.2.2.1 s.2.2.2.1 s.2.2.2.2.1 s.2.2.2.2.2.1 s.2.2.2.2.2.2.1 s.2.2.2.2.2.2.2.1 s.2.2.2.2.2.2.2.2.1 s.2.2.2.2.2.2.2.2.2.1 s.2.2.2.2.2.2.2.2.2.2.1 s.2.2.2.2.2.2.2.2.2.2.2.1 s.2.2.2.2.2.2.2.2.2.2.2.2.1 s.2.2.2.2.2.2.2.2.2.2.2.2.2.1 s.2.2.2.2.2.2.2.2.2.2.2.2.2.2.1 s.2.2.2.2.2.2.2.2.2.2.2.2.2.2.2) (fun s => I s.1 s.2.1 s.2.2.1 s.2.2.2.1 s.2.2.2.2.1 s.2.2.2.2.2.1 s.2.2.2.2.2.2.1 s.2.2.2.2.2.2.2.1 s.2.2.2.2.2.2.2.2.1 s.2.2.2.2.2.2.2.2.2.1 s.2.2.2.2.2.2.2.2.2.2.1 s.2.2.2.2.2.2.2.2.2.2.2.1 s.2.2.2.2.2.2.2.2.2.2.2.2.1 s.2.2.2.2.2.2.2.2.2.2.2.2.2.1 s.2.2.2.2.2.2.2.2.2.2.2.2.2.2.1 s.2.2.2.2.2.2.2.2.2.2.2.2.2.2.2) (fun s => μ s.1 s.2.1 s.2.2.1 s.2.2.2.1 s.2.2.2.2.1 s.2.2.2.2.2.1 s.2.2.2.2.2.2.1 s.2.2.2.2.2.2.2.1 s.2.2.2.2.2.2.2.2.1 s.2.2.2.2.2.2.2.2.2.1 s.2.2.2.2.2.2.2.2.2.2.1 s.2.2.2.2.2.2.2.2.2.2.2.1 s.2.2.2.2.2.2.2.2.2.2.2.2.1 s.2.2.2.2.2.2.2.2.2.2.2.2.2.1 s.2.2.2.2.2.2.2.2.2.2.2.2.2.2.1 s.2.2.2.2.2.2.2.2.2.2.2.2.2.2.2) (fun n s hI hk => hs n s.1 s.2.1 s.2.2.1 s.2.2.2.1 s.2.2.2.2.1 s.2.2.2.2.2.1 s.2.2.2.2.2.2.1 s.2.2.2.2.2.2.2.1 s.2.2.2.2.2.2.2.2.1 s.2.2.2.2.2.2.2.2.2.1 s.2.2.2.2.2.2.2.2.2.2.1 s.2.2.2.2.2.2.2.2.2.2.2.1 s.2.2.2.2.2.2.2.2.2.2.2.2.1 s.2.2.2.2.2.2.2.2.2.2.2.2.2.1 s.2.2.2.2.2.2.2.2.2.2.2.2.2.2.1 s.2.2.2.2.2.2.2.2.2.2.2.2.2.2.2 hI (fun b1 b2 b3 b4 b5 b6 b7 b8 b9 b10 b11 b12 b13 b14 b15 b16 h9 hm => hk (b1, b2, b3, b4, b5, b6, b7, b8, b9, b10, b11, b12, b13, b14, b15, b16) h9 hm)) (a1, a2, a3, a4, a5, a6, a7, a8, a9, a10, a11, a12, a13, a14, a15, a16) h
theorem pk_least (P : Nat → Prop) (h : ∃ k, P k) : ∃ k, P k ∧ ∀ j, j < k → ¬ P j := by
  obtain ⟨k, hk⟩ := h
  induction k using Nat.strongRecOn with
  | ind k ih =>
    by_cases e : ∃ j, j < k ∧ P j
    · obtain ⟨j, hj, pj⟩ := e
      exact ih j hj pj
    · exact ⟨k, hk, fun j hj pj => e ⟨j, hj, pj⟩⟩
theorem rp1 {ρ A1 : Type} (W : Nat → (ρ → Prop) → A1 → Prop) (ok : A1 → Prop) (μ : A1 → Nat) (val : A1 → ρ)
    (hs : ∀ (d : Nat) (post : ρ → Prop) (a1 : A1), ok a1 → post (val a1) → (∀ (post' : ρ → Prop) (b1 : A1), ok b1 → μ b1 < μ a1 → post' (val b1) → W d post' b1) → W (d + 1) post a1) :
    ∀ (d : Nat) (post : ρ → Prop) (a1 : A1), ok a1 → μ a1 < d → post (val a1) → W d post a1 := by
  intro d
  induction d with
  | zero => intro post a1 _ h; omega
  | succ d ih =>
    intro post a1 ho hm hp
    exact hs d post a1 ho hp (fun post' b1 ho' hm' hp' => ih post' b1 ho' (by omega) hp')
theorem rp2 {ρ A1 A2 : Type} (W : Nat → (ρ → Prop) → A1 → A2 → Prop) (ok : A1 → A2 → Prop) (μ : A1 → A2 → Nat) (val : A1 → A2 → ρ)
    (hs : ∀ (d : Nat) (post : ρ → Prop) (a1 : A1) (a2 : A2), ok a1 a2 → post (val a1 a2) → (∀ (post' : ρ → Prop) (b1 : A1) (b2 : A2), ok b1 b2 → μ b1 b2 < μ a1 a2 → post' (val b1 b2) → W d post' b1 b2) → W (d + 1) post a1 a2) :
    ∀ (d : Nat) (post : ρ → Prop) (a1 : A1) (a2 : A2), ok a1 a2 → μ a1 a2 < d → post (val a1 a2) → W d post a1 a2 := by
  intro d
  induction d with
  | zero => intro post a1 a2 _ h; omega
  | succ d ih =>
    intro post a1 a2 ho hm hp
    exact hs d post a1 a2 ho hp (fun post' b1 b2 ho' hm' hp' => ih post' b1 b2 ho' (by omega) hp')
theorem rp3 {ρ A1 A2 A3 : Type} (W : Nat → (ρ → Prop) → A1 → A2 → A3 → Prop) (ok : A1 → A2 → A3 → Prop) (μ : A1 → A2 → A3 → Nat) (val : A1 → A2 → A3 → ρ)
    (hs : ∀ (d : Nat) (post : ρ → Prop) (a1 : A1) (a2 : A2) (a3 : A3), ok a1 a2 a3 → post (val a1 a2 a3) → (∀ (post' : ρ → Prop) (b1 : A1) (b2 : A2) (b3 : A3), ok b1 b2 b3 → μ b1 b2 b3 < μ a1 a2 a3 → post' (val b1 b2 b3) → W d post' b1 b2 b3) → W (d + 1) post a1 a2 a3) :
    ∀ (d : Nat) (post : ρ → Prop) (a1 : A1) (a2 : A2) (a3 : A3), ok a1 a2 a3 → μ a1 a2 a3 < d → post (val a1 a2 a3) → W d post a1 a2 a3 := by
  intro d
  induction d with
  | zero => intro post a1 a2 a3 _ h; omega
  | succ d ih =>
    intro post a1 a2 a3 ho hm hp
    exact hs d post a1 a2 a3 ho hp (fun post' b1 b2 b3 ho' hm' hp' => ih post' b1 b2 b3 ho' (by omega) hp')
theorem rp4 {ρ A1 A2 A3 A4 : Type} (W : Nat → (ρ → Prop) → A1 → A2 → A3 → A4 → Prop) (ok : A1 → A2 → A3 → A4 → Prop) (μ : A1 → A2 → A3 → A4 → Nat) (val : A1 → A2 → A3 → A4 → ρ)
    (hs : ∀ (d : Nat) (post : ρ → Prop) (a1 : A1) (a2 : A2) (a3 : A3) (a4 : A4), ok a1 a2 a3 a4 → post (val a1 a2 a3 a4) → (∀ (post' : ρ → Prop) (b1 : A1) (b2 : A2) (b3 : A3) (b4 : A4), ok b1 b2 b3 b4 → μ b1 b2 b3 b4 < μ a1 a2 a3 a4 → post' (val b1 b2 b3 b4) → W d post' b1 b2 b3 b4) → W (d + 1) post a1 a2 a3 a4) :
    ∀ (d : Nat) (post : ρ → Prop) (a1 : A1) (a2 : A2) (a3 : A3) (a4 : A4), ok a1 a2 a3 a4 → μ a1 a2 a3 a4 < d → post (val a1 a2 a3 a4) → W d post a1 a2 a3 a4 := by
  intro d
  induction d with
  | zero => intro post a1 a2 a3 a4 _ h; omega
  | succ d ih =>
    intro post a1 a2 a3 a4 ho hm hp
    exact hs d post a1 a2 a3 a4 ho hp (fun post' b1 b2 b3 b4 ho' hm' hp' => ih post' b1 b2 b3 b4 ho' (by omega) hp')
theorem rp5 {ρ A1 A2 A3 A4 A5 : Type} (W : Nat → (ρ → Prop) → A1 → A2 → A3 → A4 → A5 → Prop) (ok : A1 → A2 → A3 → A4 → A5 → Prop) (μ : A1 → A2 → A3 → A4 → A5 → Nat) (val : A1 → A2 → A3 → A4 → A5 → ρ)
    (hs : ∀ (d : Nat) (post : ρ → Prop) (a1 : A1) (a2 : A2) (a3 : A3) (a4 : A4) (a5 : A5), ok a1 a2 a3 a4 a5 → post (val a1 a2 a3 a4 a5) → (∀ (post' : ρ → Prop) (b1 : A1) (b2 : A2) (b3 : A3) (b4 : A4) (b5 : A5), ok b1 b2 b3 b4 b5 → μ b1 b2 b3 b4 b5 < μ a1 a2 a3 a4 a5 → post' (val b1 b2 b3 b4 b5) → W d post' b1 b2 b3 b4 b5) → W (d + 1) post a1 a2 a3 a4 a5) :
    ∀ (d : Nat) (post : ρ → Prop) (a1 : A1) (a2 : A2) (a3 : A3) (a4 : A4) (a5 : A5), ok a1 a2 a3 a4 a5 → μ a1 a2 a3 a4 a5 < d → post (val a1 a2 a3 a4 a5) → W d post a1 a2 a3 a4 a5 := by
  intro d
  induction d with
  | zero => intro post a1 a2 a3 a4 a5 _ h; omega
  | succ d ih =>
    intro post a1 a2 a3 a4 a5 ho hm hp
    exact hs d post a1 a2 a3 a4 a5 ho hp (fun post' b1 b2 b3 b4 b5 ho' hm' hp' => ih post' b1 b2 b3 b4 b5 ho' (by omega) hp')
theorem rp6 {ρ A1 A2 A3 A4 A5 A6 : Type} (W : Nat → (ρ → Prop) → A1 → A2 → A3 → A4 → A5 → A6 → Prop) (ok : A1 → A2 → A3 → A4 → A5 → A6 → Prop) (μ : A1 → A2 → A3 → A4 → A5 → A6 → Nat) (val : A1 → A2 → A3 → A4 → A5 → A6 → ρ)
    (hs : ∀ (d : Nat) (post : ρ → Prop) (a1 : A1) (a2 : A2) (a3 : A3) (a4 : A4) (a5 : A5) (a6 : A6), ok a1 a2 a3 a4 a5 a6 → post (val a1 a2 a3 a4 a5 a6) → (∀ (post' : ρ → Prop) (b1 : A1) (b2 : A2) (b3 : A3) (b4 : A4) (b5 : A5) (b6 : A6), ok b1 b2 b3 b4 b5 b6 → μ b1 b2 b3 b4 b5 b6 < μ a1 a2 a3 a4 a5 a6 → post' (val b1 b2 b3 b4 b5 b6) → W d post' b1 b2 b3 b4 b5 b6) → W (d + 1) post a1 a2 a3 a4 a5 a6) :
    ∀ (d : Nat) (post : ρ → Prop) (a1 : A1) (a2 : A2) (a3 : A3) (a4 : A4) (a5 : A5) (a6 : A6), ok a1 a2 a3 a4 a5 a6 → μ a1 a2 a3 a4 a5 a6 < d → post (val a1 a2 a3 a4 a5 a6) → W d post a1 a2 a3 a4 a5 a6 := by
  intro d
  induction d with
  | zero => intro post a1 a2 a3 a4 a5 a6 _ h; omega
  | succ d ih =>
    intro post a1 a2 a3 a4 a5 a6 ho hm hp
    exact hs d post a1 a2 a3 a4 a5 a6 ho hp (fun post' b1 b2 b3 b4 b5 b6 ho' hm' hp' => ih post' b1 b2 b3 b4 b5 b6 ho' (by omega) hp')
theorem rec_p {σ ρ : Type} (W : Nat → (ρ → Prop) → σ → Prop) (ok : σ → Prop) (μ : σ → Nat) (val : σ → ρ)
    (hs : ∀ d s post, ok s → post (val s) → (∀ s' post', ok s' → μ s' < μ s → post' (val s') → W d post' s') → W (d + 1) post s) :
    ∀ d s post, ok s → μ s < d → post (val s) → W d post s := by
  intro d
  induction d with
  | zero => intro s post _ h; omega
  | succ d ih =>
    intro s post ho hm hp
    exact hs d s post ho hp (fun s' post' ho' hm' hp' => ih s' post' ho' (by omega) hp')
theorem rec_q {σ ρ : Type} (W : Nat → (ρ → Prop) → σ → Prop) (ok : σ → Prop) (μ : σ → Nat) (Q : σ → ρ → Prop)
    (hs : ∀ d s post, ok s → (∀ r, Q s r → post r) → (∀ s' post', ok s' → μ s' < μ s → (∀ r, Q s' r → post' r) → W d post' s') → W (d + 1) post s) :
    ∀ d s post, ok s → μ s < d → (∀ r, Q s r → post r) → W d post s := by
  intro d
  induction d with
  | zero => intro s post _ h; omega
  | succ d ih =>
    intro s post ho hm hp
    exact hs d s post ho hp (fun s' post' ho' hm' hp' => ih s' post' ho' (by omega) hp')
def bx_sum (f : Nat → Int32) : Nat → Int32
  | 0 => 0
  | n + 1 => bx_sum f n + f n
theorem ek_u {A : Prop} {B : Nat → Prop} {k N : Nat} (hk : k < N) (h : B k) : (some k = none → A) ∧ (∀ y : Nat, some k = some y → (y < N ∧ B y)) :=
  ⟨fun z => absurd z (Option.some_ne_none k), fun _ e => (by cases e; exact ⟨hk, h⟩)⟩
theorem ek_nu {A : Prop} {B : Nat → Prop} (h : A) : ((none : Option Nat) = none → A) ∧ (∀ y : Nat, (none : Option Nat) = some y → B y) :=
  ⟨fun _ => h, fun _ e => (by cases e)⟩
theorem ek_if {c d A B : Prop} (e : c ↔ d) (f : d → A) (g : ¬ d → B) : (c → A) ∧ (¬ c → B) :=
  ⟨fun z => f (e.mp z), fun z => g (fun y => z (e.mpr y))⟩
theorem ek_v {α : Sort _} {P : α → Prop} {a b : α} (e : a = b) (h : P b) : P a := e ▸ h
theorem co_some {x : Option Nat} {A : Prop} {B : Nat → Prop} (i : Nat) (h : B i) (hx : x = some i := by rfl) : (x = none → A) ∧ (∀ y : Nat, x = some y → B y) := by
  subst hx
  exact ⟨fun e => (nomatch e), fun y e => Option.some.inj e ▸ h⟩
theorem co_none {x : Option Nat} {A : Prop} {B : Nat → Prop} (h : A) (hx : x = none := by rfl) : (x = none → A) ∧ (∀ y : Nat, x = some y → B y) := by
  subst hx
  exact ⟨fun _ => h, fun y e => (nomatch e)⟩
theorem co_any {x : Option Nat} {A : Prop} {B : Nat → Prop} (hn : x = none → A) (hs : ∀ i : Nat, x = some i → B i) : (x = none → A) ∧ (∀ y : Nat, x = some y → B y) := ⟨hn, hs⟩
theorem co_2 {P : Nat → Prop} (h0 : P 0) (h1 : P 1) {i : Nat} (hi : i < 2) : P i :=
  match i, hi with
  | 0, _ => h0
  | 1, _ => h1
theorem co_3 {P : Nat → Prop} (h0 : P 0) (h1 : P 1) (h2 : P 2) {i : Nat} (hi : i < 3) : P i :=
  match i, hi with
  | 0, _ => h0
  | 1, _ => h1
  | 2, _ => h2
theorem co_4 {P : Nat → Prop} (h0 : P 0) (h1 : P 1) (h2 : P 2) (h3 : P 3) {i : Nat} (hi : i < 4) : P i :=
  match i, hi with
  | 0, _ => h0
  | 1, _ => h1
  | 2, _ => h2
  | 3, _ => h3
theorem co_dec {N : Nat} {P : Nat → Prop} [DecidablePred P] (h : (List.range N).all (fun i => decide (P i)) = true) {i : Nat} (hi : i < N) : P i := by
  have := List.all_eq_true.mp h i (List.mem_range.mpr hi)
  exact of_decide_eq_true this
theorem co_tab {α : Type} {l : List α} {d : α} {P : α → Prop} (h : ∀ a, a ∈ l → P a) {i : Nat} (hi : i < l.length) : P (l.getD i d) := by
  rw [List.getD_eq_getElem?_getD, List.getElem?_eq_getElem hi]
  exact h _ (List.getElem_mem hi)
theorem pk_mu {x : Int32} {L : Nat} (h0 : ¬ x < 0) (h : ¬ nI L ≤ x) (hL : L < 2 ^ 31) : ∃ j : Nat, j < L ∧ x = nI j ∧ x + 1 = nI (j + 1) ∧ x.toNatClampNeg = j ∧ L - (x + 1).toNatClampNeg < L - x.toNatClampNeg := by
  obtain ⟨j, hj, rfl⟩ := nI_of h0
  have hl : j < L := Nat.not_le.mp fun q => h (nI_le q hj)
  refine ⟨j, hl, rfl, nI_1 j, nI_clamp hj, ?_⟩
  rw [nI_1, nI_clamp (by omega), nI_clamp hj]
  omega
theorem op_s {α : Type} {r : Option α} {A : Prop} {B : α → Prop} {y : α} (h : r = some y) (b : B y) : (r = none → A) ∧ ∀ z, r = some z → B z :=
  ⟨fun e => (by rw [h] at e; cases e), fun z e => (by rw [h] at e; cases e; exact b)⟩
def l_holds {α : Type} (a : Nat → Option Nat) (LP : List Nat) (p : Nat → α) (c : Nat) (b : Nat → α) : Prop :=
  ∀ j, j < c → ∃ y, a j = some y ∧ y ∈ LP ∧ p y = b j
theorem l_holds_0 {α : Type} {a : Nat → Option Nat} {LP : List Nat} {p b : Nat → α} : l_holds a LP p 0 b := fun j h => absurd h (Nat.not_lt_zero j)
theorem l_in_new (LP : List Nat) (q : Nat) : q ∈ LP ++ [q] := List.mem_append.mpr (Or.inr (List.mem_singleton.mpr rfl))
def l_sum (b : Nat → Int32) : Nat → Int32
  | 0 => 0
  | k + 1 => l_sum b k + b k
theorem sb_shr0 (x : Int32) : x >>> ((0 : Int32) &&& 31) = x := by
  rw [show ((0 : Int32) &&& 31) = 0 by decide]
  simp
theorem sb_shl0 (x : Int32) : x <<< ((0 : Int32) &&& 31) = x := by
  rw [show ((0 : Int32) &&& 31) = 0 by decide]
  simp
theorem sb_cl0 : (0 : Int32).toNatClampNeg = 0 := by decide
theorem sb_m1 {p : Nat} (h : 0 < p) : nI p + (-1) = nI (p - 1) := by
  obtain ⟨q, rfl⟩ : ∃ q, p = q + 1 := ⟨p - 1, by omega⟩
  exact pk_m1 q
def sb_b (c : Nat) : Int32 := (nI c).toInt8.toInt32
theorem sb_byte : ∀ c, c < 256 → sb_b c &&& 255 = nI c ∧ ((nI c).toUInt32 % 65536).toInt32 = nI c ∧ nI c ≤ 255 := by decide +kernel
def sb_Fit (a : Nat → Int32) : Prop := ∀ j, fits .byte (.int (a j)) = true
def sb_Lat (t : Nat → Nat) (n : Nat) (a : Nat → Int32) : Prop := ∀ j, j < n → t j < 256 ∧ a j = sb_b (t j)
theorem sb_fitB (c : Nat) : fits .byte (.int (sb_b c)) = true := pk_fb _
theorem sb_fit0 : sb_Fit (fun _ => 0) := fun _ => by
  show fits .byte (.int 0) = true
  decide
theorem sb_fitU {a : Nat → Int32} {k : Nat} {x : Int32} (h : sb_Fit a) (hx : fits .byte (.int x) = true) : sb_Fit (upd a k x) := by
  intro j
  by_cases e : j = k
  · subst e
    rw [pk_us]
    exact hx
  · rw [pk_un e]
    exact h j
def sb_cat (t : Nat → Nat) (n : Nat) (s : Nat → Nat) : Nat → Nat := fun j => if j < n then t j else s (j - n)
theorem sb_cat_lo {t s : Nat → Nat} {n j : Nat} (h : j < n) : sb_cat t n s j = t j := if_pos h
theorem sb_cat_hi {t s : Nat → Nat} {n j : Nat} : sb_cat t n s (n + j) = s j := by
  show (if n + j < n then t (n + j) else s (n + j - n)) = s j
  rw [if_neg (by omega), Nat.add_sub_cancel_left]
theorem sb_latPut {t s : Nat → Nat} {n w : Nat} {a a' : Nat → Int32} (h : sb_Lat t n a) (hk : ∀ j, j < n → a' j = a j) (hs : ∀ i, i < w → s i < 256 ∧ a' (n + i) = sb_b (s i)) : sb_Lat (sb_cat t n s) (n + w) a' := by
  intro j hj
  by_cases e : j < n
  · rw [sb_cat_lo e, hk j e]
    exact h j e
  · obtain ⟨i, rfl⟩ : ∃ i, j = n + i := ⟨j - n, by omega⟩
    rw [sb_cat_hi]
    exact hs i (by omega)
theorem sb_latKeep {t : Nat → Nat} {n : Nat} {a a' : Nat → Int32} (h : sb_Lat t n a) (hk : ∀ j, j < n → a' j = a j) : sb_Lat t n a' := fun j hj => by
  rw [hk j hj]
  exact h j hj
def sb_cap (q m : Nat) : Nat := if q ≤ m then m else if 2 * m + 2 < q then q else 2 * m + 2
def sb_Room (q m mc ms : Nat) : Prop := q ≤ m ∨ (1 ≤ mc ∧ sb_cap q m ≤ ms ∧ sb_cap q m ≤ 65536)
theorem sb_cap_ge (q m : Nat) : q ≤ sb_cap q m := by
  unfold sb_cap
  split
  · omega
  · split <;> omega
theorem sb_cap_gem (q m : Nat) : m ≤ sb_cap q m := by
  unfold sb_cap
  split
  · omega
  · split <;> omega
theorem sb_cap_le {q m mc ms : Nat} (hm : m ≤ 65536) (hr : sb_Room q m mc ms) : sb_cap q m ≤ 65536 := by
  rcases hr with h | h
  · rw [sb_cap, if_pos h]
    exact hm
  · exact h.2.2
theorem sb_at {P : Int32 → Prop} {x y : Int32} (e : x = y) (h : P y) : P x := e ▸ h
def sb_dg (w : Nat) : Nat := if w < 10 then 1 else if w < 100 then 2 else if w < 1000 then 3 else if w < 10000 then 4 else if w < 100000 then 5 else if w < 1000000 then 6 else if w < 10000000 then 7 else if w < 100000000 then 8 else if w < 1000000000 then 9 else 10
def sb_dec (v : Nat) : Nat → Nat := fun i => 48 + v / 10 ^ (sb_dg v - 1 - i) % 10
theorem sb_dg_in (w : Nat) : 1 ≤ sb_dg w ∧ sb_dg w ≤ 10 := by
  unfold sb_dg
  constructor <;> (repeat' split) <;> omega
theorem sb_dg100 {w : Nat} (h : 100 ≤ w) (hw : w < 2 ^ 31) : sb_dg w = sb_dg (w / 100) + 2 := by
  rw [sb_dg, sb_dg, if_neg (show ¬ w < 10 by omega), if_neg (show ¬ w < 100 by omega)]
  by_cases h3 : w < 1000
  · rw [if_pos h3, if_pos (show w / 100 < 10 by omega)]
  rw [if_neg h3, if_neg (show ¬ w / 100 < 10 by omega)]
  by_cases h4 : w < 10000
  · rw [if_pos h4, if_pos (show w / 100 < 100 by omega)]
  rw [if_neg h4, if_neg (show ¬ w / 100 < 100 by omega)]
  by_cases h5 : w < 100000
  · rw [if_pos h5, if_pos (show w / 100 < 1000 by omega)]
  rw [if_neg h5, if_neg (show ¬ w / 100 < 1000 by omega)]
  by_cases h6 : w < 1000000
  · rw [if_pos h6, if_pos (show w / 100 < 10000 by omega)]
  rw [if_neg h6, if_neg (show ¬ w / 100 < 10000 by omega)]
  by_cases h7 : w < 10000000
  · rw [if_pos h7, if_pos (show w / 100 < 100000 by omega)]
  rw [if_neg h7, if_neg (show ¬ w / 100 < 100000 by omega)]
  by_cases h8 : w < 100000000
  · rw [if_pos h8, if_pos (show w / 100 < 1000000 by omega)]
  rw [if_neg h8, if_neg (show ¬ w / 100 < 1000000 by omega)]
  by_cases h9 : w < 1000000000
  · rw [if_pos h9, if_pos (show w / 100 < 10000000 by omega)]
  rw [if_neg h9, if_neg (show ¬ w / 100 < 10000000 by omega)]
  rw [if_pos (show w / 100 < 100000000 by omega)]
theorem sb_negT {w : Nat} (h : w < 2 ^ 31) : (-nI w).toInt = -(w : Int) := by
  rw [Int32.toInt_neg, nI_toInt h]
  exact Int.bmod_eq_of_le (by omega) (by omega)
theorem sb_nle {a b : Nat} (ha : a < 2 ^ 31) (hb : b < 2 ^ 31) : -nI a ≤ -nI b ↔ b ≤ a := by
  rw [Int32.le_iff_toInt_le, sb_negT ha, sb_negT hb]
  omega
theorem sb_nlt {a b : Nat} (ha : a < 2 ^ 31) (hb : b < 2 ^ 31) : -nI a < -nI b ↔ b < a := by
  rw [Int32.lt_iff_toInt_lt, sb_negT ha, sb_negT hb]
  omega
theorem sb_cmp {A B : Prop} {x : Int32} (v c : Nat) (f : c ≤ v → A) (g : v < c → B) (hv : v < 2 ^ 31) (hx : x = -nI c := by rfl) (hc : c < 2 ^ 31 := by omega) : (-nI v ≤ x → A) ∧ (¬ -nI v ≤ x → B) := by
  subst hx
  rw [sb_nle hv hc]
  exact ⟨f, fun z => g (by omega)⟩
theorem sb_ndiv {w : Nat} (hw : w < 2 ^ 31) : (-nI w) / 100 = -nI (w / 100) := by
  apply Int32.toInt_inj.mp
  have h100 : (100 : Int32).toInt = 100 := by decide
  rw [Int32.toInt_div, sb_negT hw, h100, sb_negT (by omega), Int.neg_tdiv, Int.tdiv_eq_ediv_of_nonneg (by omega), Int.bmod_eq_of_le (by omega) (by omega)]
  omega
theorem sb_nrem {w : Nat} (hw : w < 2 ^ 31) : (-nI (w / 100)) * 100 - (-nI w) = nI (w % 100) := by
  have h := pk_rem (a := w) (d := 100) hw (by decide) (by decide)
  rw [pk_div hw (by decide) (by decide)] at h
  rw [← h]
  show (-nI (w / 100)) * nI 100 - (-nI w) = nI w - nI (w / 100) * nI 100
  rw [Int32.neg_mul, Int32.sub_neg, Int32.add_comm, ← Int32.sub_eq_add_neg]
end
section
/-! rows on bits, shifts and unsigned numbers, to paste: each family out of a closed proof of our own, whole with what it rests on; each by itself clean at Lean in its own claim (generation 39, form 5). Take a family whole -/
/-! ===== Int32 by its bits: bt x i ===== -/
def bt (x : Int32) (i : Nat) : Bool := x.toBitVec.getLsbD i
theorem b_ext {x y : Int32} (h : ∀ i, i < 32 → bt x i = bt y i) : x = y := Int32.toBitVec_inj.mp (BitVec.eq_of_getLsbD_eq (fun i hi => h i hi))
theorem b_or (x y : Int32) (i : Nat) : bt (x ||| y) i = (bt x i || bt y i) := by unfold bt; rw [Int32.toBitVec_or, BitVec.getLsbD_or]
theorem b_and (x y : Int32) (i : Nat) : bt (x &&& y) i = (bt x i && bt y i) := by unfold bt; rw [Int32.toBitVec_and, BitVec.getLsbD_and]
theorem b_xor (x y : Int32) (i : Nat) : bt (x ^^^ y) i = (bt x i ^^ bt y i) := by unfold bt; rw [Int32.toBitVec_xor, BitVec.getLsbD_xor]
theorem b_big {x : Int32} {i : Nat} (h : 32 ≤ i) : bt x i = false := BitVec.getLsbD_of_ge _ _ h
theorem b_255 (i : Nat) : bt 255 i = decide (i < 8) := by
  rcases Nat.lt_or_ge i 32 with h | h
  · exact (by decide +kernel : ∀ i, i < 32 → bt 255 i = decide (i < 8)) i h
  · rw [b_big h, decide_eq_false (by omega)]
theorem b_65535 (i : Nat) : bt 65535 i = decide (i < 16) := by
  rcases Nat.lt_or_ge i 32 with h | h
  · exact (by decide +kernel : ∀ i, i < 32 → bt 65535 i = decide (i < 16)) i h
  · rw [b_big h, decide_eq_false (by omega)]
theorem b_m1 : ∀ i, i < 32 → bt (-1) i = true := by decide +kernel
theorem b_0 (i : Nat) : bt 0 i = false := BitVec.getLsbD_zero
theorem s_l : ∀ n, n < 32 → ((nI n &&& 31).toBitVec.smod 32).toNat = n := by decide +kernel
theorem s_u : ∀ n, n < 32 → (((nI n).toUInt32 &&& Int32.toUInt32 31).toBitVec % 32).toNat = n := by decide +kernel
theorem b_shl (n : Nat) (hn : n < 32) (x : Int32) {i : Nat} (hi : i < 32) : bt (x <<< (nI n &&& 31)) i = (decide (n ≤ i) && bt x (i - n)) := by
  unfold bt
  rw [Int32.toBitVec_shiftLeft]
  show (x.toBitVec <<< ((nI n &&& 31).toBitVec.smod 32).toNat).getLsbD i = _
  rw [s_l n hn, BitVec.getLsbD_shiftLeft]
  rcases Nat.lt_or_ge i n with h | h
  · simp [h, Nat.not_le.mpr h]
  · simp [hi, h, Nat.not_lt.mpr h]
theorem b_ushr (n : Nat) (hn : n < 32) (x : Int32) (i : Nat) : bt ((x.toUInt32 >>> ((nI n).toUInt32 &&& Int32.toUInt32 31)).toInt32) i = bt x (n + i) := by
  show (x.toUInt32 >>> ((nI n).toUInt32 &&& Int32.toUInt32 31)).toBitVec.getLsbD i = x.toUInt32.toBitVec.getLsbD (n + i)
  rw [UInt32.toBitVec_shiftRight]
  show (x.toUInt32.toBitVec >>> (((nI n).toUInt32 &&& Int32.toUInt32 31).toBitVec % 32).toNat).getLsbD i = _
  rw [s_u n hn, BitVec.getLsbD_ushiftRight]
theorem b_sshr (n : Nat) (hn : n < 32) (x : Int32) {i : Nat} (hi : i < 32) : bt (x >>> (nI n &&& 31)) i = if n + i < 32 then bt x (n + i) else bt x 31 := by
  unfold bt
  rw [Int32.toBitVec_shiftRight]
  show (x.toBitVec.sshiftRight ((nI n &&& 31).toBitVec.smod 32).toNat).getLsbD i = _
  rw [s_l n hn, BitVec.getLsbD_sshiftRight, BitVec.msb_eq_getLsbD_last]
  simp [hi]
theorem b_shl8 (x : Int32) {i : Nat} (hi : i < 32) : bt (x <<< ((8 : Int32) &&& 31)) i = (decide (8 ≤ i) && bt x (i - 8)) := b_shl 8 (by omega) x hi
theorem b_shl16 (x : Int32) {i : Nat} (hi : i < 32) : bt (x <<< ((16 : Int32) &&& 31)) i = (decide (16 ≤ i) && bt x (i - 16)) := b_shl 16 (by omega) x hi
theorem b_shl24 (x : Int32) {i : Nat} (hi : i < 32) : bt (x <<< ((24 : Int32) &&& 31)) i = (decide (24 ≤ i) && bt x (i - 24)) := b_shl 24 (by omega) x hi
theorem b_sshr8 (x : Int32) {i : Nat} (hi : i < 32) : bt (x >>> ((8 : Int32) &&& 31)) i = if 8 + i < 32 then bt x (8 + i) else bt x 31 := b_sshr 8 (by omega) x hi
/-! ===== nI under and, xor, >>>, one bit, 65535 ===== -/
theorem nx_and (a b : Nat) : nI a &&& nI b = nI (a &&& b) := by
  apply Int32.toBitVec_inj.1
  show BitVec.ofNat 32 a &&& BitVec.ofNat 32 b = BitVec.ofNat 32 (a &&& b)
  apply BitVec.eq_of_getLsbD_eq
  intro i hi
  simp [hi]
theorem nx_xor (a b : Nat) : nI a ^^^ nI b = nI (a ^^^ b) := by
  apply Int32.toBitVec_inj.1
  show BitVec.ofNat 32 a ^^^ BitVec.ofNat 32 b = BitVec.ofNat 32 (a ^^^ b)
  apply BitVec.eq_of_getLsbD_eq
  intro i hi
  simp [hi]
theorem nx_cnt : ∀ j : Fin 32, (UInt32.ofNat j.val &&& Int32.toUInt32 31).toNat % 32 = j.val := by decide +kernel
theorem nx_ush {k j : Nat} (hk : k < 65536) (hj : j < 32) : ((nI k).toUInt32 >>> ((nI j).toUInt32 &&& Int32.toUInt32 31)).toInt32 = nI (k >>> j) := by
  have hs : k >>> j ≤ k := by
    rw [Nat.shiftRight_eq_div_pow]
    exact Nat.div_le_self _ _
  have e2 : UInt32.ofNat k >>> (UInt32.ofNat j &&& Int32.toUInt32 31) = UInt32.ofNat (k >>> j) := by
    apply UInt32.toNat_inj.1
    have h1 : (UInt32.ofNat k).toNat = k := Nat.mod_eq_of_lt (by omega)
    have h2 : (UInt32.ofNat (k >>> j)).toNat = k >>> j := Nat.mod_eq_of_lt (by omega)
    rw [UInt32.toNat_shiftRight, nx_cnt ⟨j, hj⟩, h1, h2]
  show (UInt32.ofNat k >>> (UInt32.ofNat j &&& Int32.toUInt32 31)).toInt32 = _
  rw [e2]
  rfl
theorem nx_bit {k j : Nat} (hk : k < 65536) (hj : j < 16) : (((nI k).toUInt32 >>> ((nI j).toUInt32 &&& Int32.toUInt32 31)).toInt32 &&& 1) = 0 ↔ k.testBit j = false := by
  rw [nx_ush hk (by omega)]
  show nI (k >>> j) &&& nI 1 = 0 ↔ _
  rw [nx_and, Nat.and_one_is_mod, ← nI_0, nI_eq (by omega) (by omega), Nat.testBit_eq_decide_div_mod_eq, Nat.shiftRight_eq_div_pow, decide_eq_false_iff_not]
  generalize k / 2 ^ j = z
  omega
theorem nx_mod (k : Nat) : nI k &&& 65535 = nI (k % 65536) := by
  show nI k &&& nI 65535 = _
  rw [nx_and, show (65535 : Nat) = 2 ^ 16 - 1 from rfl, Nat.and_two_pow_sub_one_eq_mod]
theorem nx_m16 {k : Nat} (h : k < 65536) : nI k &&& 65535 = nI k := by rw [nx_mod, Nat.mod_eq_of_lt h]
theorem nx_mask (x : Int32) : ∃ k, k < 65536 ∧ x &&& 65535 = nI k := by
  have e : x = nI x.toBitVec.toNat := by
    apply Int32.toBitVec_inj.1
    show x.toBitVec = BitVec.ofNat 32 x.toBitVec.toNat
    simp
  refine ⟨x.toBitVec.toNat % 65536, Nat.mod_lt _ (by omega), ?_⟩
  rw [← nx_mod, ← e]
/-! ===== Int32 as a set of bits: test, set ===== -/
def nf_M (m : Int32) : Nat := 4294967296 - m.toBitVec.toNat
theorem nf_sh : ∀ l, l < 32 → ((1 : Int32) <<< (nI l &&& 31)).toBitVec = BitVec.twoPow 32 l := by decide +kernel
theorem nf_sl : ∀ l, l < 32 → (((nI l).toUInt32 &&& Int32.toUInt32 31).toBitVec % 32).toNat = l := by decide +kernel
theorem nf_tp : ∀ l, l < 32 → BitVec.twoPow 32 l ≠ 0#32 := by decide +kernel
theorem nf_bit (m : Int32) (l : Nat) (hl : l < 32) : ((m.toUInt32 >>> ((nI l).toUInt32 &&& Int32.toUInt32 31)).toInt32 &&& 1) = 0 ↔ (m &&& ((1 : Int32) <<< (nI l &&& 31))) = 0 := by
  have e : ((m.toUInt32 >>> ((nI l).toUInt32 &&& Int32.toUInt32 31)).toInt32).toBitVec = m.toBitVec >>> l := by
    show m.toBitVec >>> (((nI l).toUInt32 &&& Int32.toUInt32 31).toBitVec % 32) = m.toBitVec >>> l
    rw [BitVec.ushiftRight_eq', nf_sl l hl]
  rw [← Int32.toBitVec_inj, ← Int32.toBitVec_inj, Int32.toBitVec_and, Int32.toBitVec_and, nf_sh l hl, e, BitVec.and_twoPow]
  show (m.toBitVec >>> l &&& 1#32) = 0#32 ↔ _ = 0#32
  rw [BitVec.and_one_eq_setWidth_ofBool_getLsbD, BitVec.getLsbD_ushiftRight, Nat.add_zero]
  cases hb : m.toBitVec.getLsbD l
  · exact ⟨fun _ => by simp, fun _ => by decide⟩
  · exact ⟨fun z => absurd z (by decide), fun z => absurd ((if_pos rfl).symm.trans z) (nf_tp l hl)⟩
theorem nf_gr (m k : Int32) (h : m &&& k = 0) (hk : k ≠ 0) : nf_M (m ||| k) < nf_M m := by
  have hm := m.toBitVec.isLt
  have hm' := (m ||| k).toBitVec.isLt
  have h1 : m.toBitVec.toNat ≤ (m ||| k).toBitVec.toNat := by
    rw [Int32.toBitVec_or, BitVec.toNat_or]
    exact Nat.left_le_or
  have h2 : m.toBitVec.toNat ≠ (m ||| k).toBitVec.toNat := by
    intro e
    have e2 : m = m ||| k := Int32.toBitVec_inj.mp (BitVec.eq_of_toNat_eq e)
    apply hk
    apply Int32.toBitVec_inj.mp
    show k.toBitVec = 0#32
    apply BitVec.eq_of_getLsbD_eq
    intro i hi
    have a : m.toBitVec.getLsbD i = (m.toBitVec.getLsbD i || k.toBitVec.getLsbD i) := by rw [← BitVec.getLsbD_or, ← Int32.toBitVec_or, ← e2]
    have b : (m.toBitVec.getLsbD i && k.toBitVec.getLsbD i) = false := by
      rw [← BitVec.getLsbD_and, ← Int32.toBitVec_and, h]
      exact BitVec.getLsbD_zero
    rw [BitVec.getLsbD_zero]
    revert a b
    cases m.toBitVec.getLsbD i <;> cases k.toBitVec.getLsbD i <;> simp
  unfold nf_M
  omega
/-! ===== a byte read unsigned ===== -/
theorem bp_b (x : Int32) : x.toInt8.toInt32 &&& 255 = x &&& 255 := by
  apply Int32.toBitVec_inj.mp
  rw [Int32.toBitVec_and, Int32.toBitVec_and, Int8.toBitVec_toInt32, Int32.toBitVec_toInt8]
  apply BitVec.eq_of_getLsbD_eq
  intro i hi
  rw [BitVec.getLsbD_and, BitVec.getLsbD_and]
  have hm : ∀ i < 32, 8 ≤ i → (255 : Int32).toBitVec.getLsbD i = false := by decide
  rcases Nat.lt_or_ge i 8 with z | z
  · rw [BitVec.getLsbD_signExtend, BitVec.getLsbD_signExtend, if_pos z, if_pos hi]
    simp only [z, hi, decide_true, Bool.true_and]
  · rw [hm i hi z]; simp
/-! ===== the char cast and 65535 ===== -/
theorem em_w (v : Int32) : ∃ w : Nat, w < 65536 ∧ (v.toUInt32 % 65536).toInt32 = nI w ∧ v &&& 65535 = nI w := by
  have hr := lw_u16_r v
  have h0 : (0 : Int32).toInt = 0 := by decide
  obtain ⟨w, h1, h2⟩ := nI_of (x := lw_u16 v) (by rw [Int32.lt_iff_toInt_lt]; omega)
  have h3 : (v.toUInt32 % 65536).toInt32 = nI w := h2
  rw [h2, nI_toInt h1] at hr
  exact ⟨w, by omega, h3, by rw [← lg_i2c_mask, ← lg_i2c_nf, h3]⟩
/-! ===== Int64 as a set of bits: test, set, clear ===== -/
theorem ts_nf {x : Bool} (h : ¬ x = false) : x = true := by cases x <;> first | rfl | exact absurd rfl h
theorem ts_nt {x : Bool} (h : ¬ x = true) : x = false := by cases x <;> first | rfl | exact absurd rfl h
theorem ts_bit {w : Int64} {s : UInt64} {j : Nat} (hj : j < 64) (hs : s.toNat = j) : ((w.toUInt64 >>> s).toInt64 &&& 1) = 0 ↔ w.toBitVec.getLsbD j = false := by
  have e : (w.toUInt64 >>> s).toInt64.toBitVec = w.toBitVec >>> j := by
    apply BitVec.eq_of_toNat_eq
    show (w.toUInt64 >>> s).toNat = _
    rw [UInt64.toNat_shiftRight, hs, Nat.mod_eq_of_lt hj, BitVec.toNat_ushiftRight]
    rfl
  rw [← Int64.toBitVec_inj, Int64.toBitVec_and, e]
  show w.toBitVec >>> j &&& 1#64 = 0#64 ↔ _
  constructor
  · intro h
    have t := congrArg (fun x => x.getLsbD 0) h
    simpa using t
  · intro h
    apply BitVec.eq_of_getLsbD_eq
    intro i hi
    cases i with
    | zero => simp [h]
    | succ i => simp
theorem ts_or {w m : Int64} {j : Nat} (hj : j < 64) (hm : m.toBitVec = BitVec.twoPow 64 j) : (w ||| m) = w ↔ w.toBitVec.getLsbD j = true := by
  rw [← Int64.toBitVec_inj, Int64.toBitVec_or, hm]
  constructor
  · intro h
    have t := congrArg (fun x => x.getLsbD j) h
    simp only [BitVec.getLsbD_or, BitVec.getLsbD_twoPow] at t
    simpa [hj] using t.symm
  · intro h
    apply BitVec.eq_of_getLsbD_eq
    intro i hi
    rw [BitVec.getLsbD_or, BitVec.getLsbD_twoPow]
    by_cases e : j = i
    · subst e; rw [h, Bool.true_or]
    · simp [e]
theorem ts_and {w m : Int64} {j : Nat} (hj : j < 64) (hm : m.toBitVec = BitVec.twoPow 64 j) : (w &&& (m ^^^ (-1))) = w ↔ w.toBitVec.getLsbD j = false := by
  have ha : (-1 : Int64).toBitVec = BitVec.allOnes 64 := by decide
  rw [← Int64.toBitVec_inj, Int64.toBitVec_and, Int64.toBitVec_xor, hm, ha]
  constructor
  · intro h
    have t := congrArg (fun x => x.getLsbD j) h
    simp only [BitVec.getLsbD_and, BitVec.getLsbD_xor, BitVec.getLsbD_twoPow, BitVec.getLsbD_allOnes] at t
    simpa [hj] using t.symm
  · intro h
    apply BitVec.eq_of_getLsbD_eq
    intro i hi
    rw [BitVec.getLsbD_and, BitVec.getLsbD_xor, BitVec.getLsbD_twoPow, BitVec.getLsbD_allOnes]
    by_cases e : j = i
    · subst e; rw [h, Bool.false_and]
    · simp [e, hi]
/-! ===== lN n to 2^64: shifts, and, or, masks, one bit ===== -/
theorem wb_tb (n : Nat) : (lN n).toBitVec = BitVec.ofNat 64 n := rfl
theorem wb_inj {a b : Int64} (h : a.toBitVec = b.toBitVec) : a = b := Int64.toBitVec_inj.mp h
theorem wb_tn {n : Nat} (h : n < 2 ^ 64) : (lN n).toBitVec.toNat = n := by rw [wb_tb, BitVec.toNat_ofNat, Nat.mod_eq_of_lt h]
theorem wb_of (x : Int64) : ∃ n, n < 2 ^ 64 ∧ x = lN n := ⟨x.toBitVec.toNat, x.toBitVec.isLt, wb_inj (by rw [wb_tb]; simp)⟩
theorem wb_of32 (x : Int32) : ∃ n, n < 2 ^ 32 ∧ x = nI n := ⟨x.toBitVec.toNat, x.toBitVec.isLt, Int32.toBitVec_inj.mp (by show _ = BitVec.ofNat 32 _; simp)⟩
theorem wb_c : ∀ k, k < 64 → ((nI k).toInt64 &&& 63) = lN k := by decide +kernel
theorem wb_cu : ∀ k, k < 64 → ((nI k).toInt64.toUInt64 &&& Int64.toUInt64 63) = UInt64.ofNat k := by decide +kernel
theorem wb_sm : ∀ k, k < 64 → (BitVec.ofNat 64 k).smod 64 = BitVec.ofNat 64 k := by decide +kernel
theorem wb_pw {a b : Nat} (h : a ≤ b) : 2 ^ b = 2 ^ a * 2 ^ (b - a) := by rw [← Nat.pow_add]; congr 1; omega
theorem wb_lt2 {a b : Nat} (h : a < b) : 2 ^ a < 2 ^ b := Nat.pow_lt_pow_right (by decide) h
theorem wb_mod (n : Nat) : lN n = lN (n % 2 ^ 64) := wb_inj (by rw [wb_tb, wb_tb]; apply BitVec.eq_of_toNat_eq; rw [BitVec.toNat_ofNat, BitVec.toNat_ofNat, Nat.mod_mod])
theorem wb_shr {n k : Nat} (hn : n < 2 ^ 64) (hk : k < 64) : ((lN n).toUInt64 >>> ((nI k).toInt64.toUInt64 &&& Int64.toUInt64 63)).toInt64 = lN (n / 2 ^ k) := by
  rw [wb_cu k hk]
  apply wb_inj
  apply BitVec.eq_of_toNat_eq
  show ((lN n).toUInt64 >>> UInt64.ofNat k).toNat = (BitVec.ofNat 64 _).toNat
  have h1 : (UInt64.ofNat k).toNat = k := by
    show (BitVec.ofNat 64 k).toNat = k
    rw [BitVec.toNat_ofNat, Nat.mod_eq_of_lt (by omega)]
  have h2 : (lN n).toUInt64.toNat = n := wb_tn hn
  rw [UInt64.toNat_shiftRight, h1, h2, Nat.mod_eq_of_lt hk, Nat.shiftRight_eq_div_pow, BitVec.toNat_ofNat, Nat.mod_eq_of_lt (Nat.lt_of_le_of_lt (Nat.div_le_self _ _) hn)]
theorem wb_shl (n : Nat) {k : Nat} (hk : k < 64) : lN n <<< ((nI k).toInt64 &&& 63) = lN (n * 2 ^ k) := by
  rw [wb_c k hk]
  apply wb_inj
  rw [Int64.toBitVec_shiftLeft, wb_tb, wb_tb, wb_tb, wb_sm k hk]
  apply BitVec.eq_of_toNat_eq
  rw [BitVec.shiftLeft_eq', BitVec.toNat_shiftLeft, BitVec.toNat_ofNat, BitVec.toNat_ofNat, BitVec.toNat_ofNat, Nat.mod_eq_of_lt (show k < 2 ^ 64 by omega), Nat.shiftLeft_eq, Nat.mul_mod, Nat.mod_mod, ← Nat.mul_mod]
theorem wb_and {a b : Nat} (ha : a < 2 ^ 64) (hb : b < 2 ^ 64) : lN a &&& lN b = lN (a &&& b) := by
  apply wb_inj
  rw [Int64.toBitVec_and, wb_tb, wb_tb, wb_tb]
  apply BitVec.eq_of_toNat_eq
  rw [BitVec.toNat_and, BitVec.toNat_ofNat, BitVec.toNat_ofNat, BitVec.toNat_ofNat, Nat.mod_eq_of_lt ha, Nat.mod_eq_of_lt hb, Nat.mod_eq_of_lt (Nat.and_lt_two_pow _ hb)]
theorem wb_or {a b : Nat} (ha : a < 2 ^ 64) (hb : b < 2 ^ 64) : lN a ||| lN b = lN (a ||| b) := by
  apply wb_inj
  rw [Int64.toBitVec_or, wb_tb, wb_tb, wb_tb]
  apply BitVec.eq_of_toNat_eq
  rw [BitVec.toNat_or, BitVec.toNat_ofNat, BitVec.toNat_ofNat, BitVec.toNat_ofNat, Nat.mod_eq_of_lt ha, Nat.mod_eq_of_lt hb, Nat.mod_eq_of_lt (Nat.or_lt_two_pow ha hb)]
theorem wb_mask {n k : Nat} (hn : n < 2 ^ 64) (hk : k < 64) : lN n &&& lN (2 ^ k - 1) = lN (n % 2 ^ k) := by
  rw [wb_and hn (by have := wb_lt2 hk; omega), Nat.and_two_pow_sub_one_eq_mod]
theorem wb_a1 {n : Nat} (hn : n < 2 ^ 64) : lN n &&& 1 = lN (n % 2) := wb_mask (k := 1) hn (by decide)
theorem wb_bit {n k : Nat} (hn : n < 2 ^ 64) (hk : k < 64) : ((lN n).toUInt64 >>> ((nI k).toInt64.toUInt64 &&& Int64.toUInt64 63)).toInt64 &&& 1 = lN (n / 2 ^ k % 2) := by
  rw [wb_shr hn hk, wb_a1 (Nat.lt_of_le_of_lt (Nat.div_le_self _ _) hn)]
theorem wb_xor {q k : Nat} (hk : k < 63) (h : 2 ^ k ≤ q) (h2 : q < 2 ^ (k + 1)) : lN q ^^^ lN (2 ^ k) = lN (q - 2 ^ k) := by
  obtain ⟨r, rfl⟩ : ∃ r, q = 2 ^ k + r := ⟨q - 2 ^ k, by omega⟩
  have hr : r < 2 ^ k := by rw [Nat.pow_succ] at h2; omega
  have hx : (2 ^ k + r) ^^^ 2 ^ k = r := by
    apply Nat.eq_of_testBit_eq
    intro i
    rw [Nat.testBit_xor, Nat.testBit_two_pow]
    rcases Nat.lt_trichotomy i k with h | h | h
    · rw [Nat.testBit_two_pow_add_gt h]
      simp [show ¬ k = i by omega]
    · subst h
      rw [Nat.testBit_two_pow_add_eq]
      simp
    · have a1 : 2 ^ (k + 1) ≤ 2 ^ i := Nat.pow_le_pow_right (by decide) h
      rw [Nat.testBit_lt_two_pow (show 2 ^ k + r < 2 ^ i by omega), Nat.testBit_lt_two_pow (show r < 2 ^ i by omega)]
      simp [show ¬ k = i by omega]
  have b1 := wb_lt2 (show k + 1 < 64 by omega)
  have b2 := wb_lt2 (show k < 64 by omega)
  apply wb_inj
  rw [Int64.toBitVec_xor, wb_tb, wb_tb, wb_tb]
  apply BitVec.eq_of_toNat_eq
  rw [BitVec.toNat_xor, BitVec.toNat_ofNat, BitVec.toNat_ofNat, BitVec.toNat_ofNat, Nat.mod_eq_of_lt (by omega : 2 ^ k + r < 2 ^ 64), Nat.mod_eq_of_lt b2, hx, Nat.add_sub_cancel_left, Nat.mod_eq_of_lt (by omega)]
/-! ===== lN: masks, 'or' of parts that don't overlap is a sum ===== -/
theorem u_tn {n : Nat} (h : n < 2 ^ 64) : (UInt64.ofNat n).toNat = n := Nat.mod_eq_of_lt h
theorem g_and {a b c : Nat} (ha : a < 2 ^ 64) (hb : b < 2 ^ 64) (hc : a &&& b = c) : lN a &&& lN b = lN c := by
  subst hc
  have h : UInt64.ofNat a &&& UInt64.ofNat b = UInt64.ofNat (a &&& b) := UInt64.toNat_inj.mp (by rw [UInt64.toNat_and, u_tn ha, u_tn hb, u_tn (Nat.and_lt_two_pow a hb)])
  have h2 := congrArg UInt64.toInt64 h
  exact h2
theorem g_and1 {a : Nat} (ha : a < 2 ^ 64) : lN a &&& 1 = lN (a % 2) := g_and (b := 1) ha (by decide) (Nat.and_two_pow_sub_one_eq_mod a 1)
theorem g_mask {a s p : Nat} (hp : 2 ^ s = p) (hs : s < 64) (ha : a < 2 ^ 64) : lN a &&& lN (p - 1) = lN (a % p) := by
  subst hp
  have := Nat.pow_lt_pow_right (show 1 < 2 by decide) hs
  exact g_and ha (by omega) (Nat.and_two_pow_sub_one_eq_mod a s)
theorem g_or {k p a b : Nat} (hp : 2 ^ k = p) (ha : a < p) (h : b * p + a < 2 ^ 64) : lN (b * p) ||| lN a = lN (b * p + a) := by
  subst hp
  have h1 : b * 2 ^ k ||| a = b * 2 ^ k + a := by rw [← Nat.shiftLeft_eq, Nat.shiftLeft_add_eq_or_of_lt ha]
  have h3 : UInt64.ofNat (b * 2 ^ k) ||| UInt64.ofNat a = UInt64.ofNat (b * 2 ^ k + a) := UInt64.toNat_inj.mp (by rw [UInt64.toNat_or, u_tn (by omega), u_tn (by omega), u_tn h, h1])
  have h2 := congrArg UInt64.toInt64 h3
  exact h2
theorem g_or' {k p a b : Nat} (hp : 2 ^ k = p) (ha : a < p) (h : a + b * p < 2 ^ 64) : lN a ||| lN (b * p) = lN (a + b * p) := by
  rw [Int64.or_comm, g_or hp ha (by omega), Nat.add_comm]
theorem g_ushr {a k p : Nat} {y : UInt64} (hy : y = UInt64.ofNat k) (hk : k < 64) (hp : 2 ^ k = p) (ha : a < 2 ^ 64) : ((lN a).toUInt64 >>> y).toInt64 = lN (a / p) := by
  subst hy hp
  have h : UInt64.ofNat a >>> UInt64.ofNat k = UInt64.ofNat (a / 2 ^ k) := UInt64.toNat_inj.mp (by rw [UInt64.toNat_shiftRight, u_tn ha, u_tn (by omega), u_tn (Nat.lt_of_le_of_lt (Nat.div_le_self _ _) ha), Nat.mod_eq_of_lt hk, Nat.shiftRight_eq_div_pow])
  have h2 := congrArg UInt64.toInt64 h
  exact h2
theorem g_shl {a k p : Nat} {y : Int64} (hy : y.toBitVec.smod 64 = BitVec.ofNat 64 k) (hk : k < 64) (hp : 2 ^ k = p) (ha : a < 2 ^ 64) : lN a <<< y = lN (a * p) := by
  subst hp
  apply Int64.toBitVec_inj.mp
  rw [Int64.toBitVec_shiftLeft, hy]
  apply BitVec.eq_of_toNat_eq
  have hb : (lN a).toBitVec.toNat = a := Nat.mod_eq_of_lt ha
  have hk' : (BitVec.ofNat 64 k).toNat = k := Nat.mod_eq_of_lt (by omega)
  have h : ((lN a).toBitVec <<< BitVec.ofNat 64 k).toNat = (a * 2 ^ k) % 2 ^ 64 := by simp only [BitVec.shiftLeft_eq', BitVec.toNat_shiftLeft, hb, hk', Nat.shiftLeft_eq]
  exact h
/-! ===== lN to 2^62 under >> and >>> ===== -/
theorem pf_lI {a : Nat} (h : a < 2 ^ 63) : (lN a).toInt = (a : Int) := lg_ofNat_toInt h
theorem pf_shr {a d : Nat} {D : Int64} (hD : (D.toBitVec.smod 64).toNat = d) (h : a < 2 ^ 62) : lN a >>> D = lN (a / 2 ^ d) := by
  have hd : a / 2 ^ d ≤ a := Nat.div_le_self _ _
  apply Int64.toInt_inj.mp
  have e : (lN a >>> D).toInt = (lN a).toInt >>> d := by
    rw [← hD]
    exact BitVec.toInt_sshiftRight ..
  rw [e, Int.shiftRight_eq_div_pow, pf_lI (by omega), pf_lI (by omega)]
  rfl
theorem pf_ushr {a d : Nat} {D : UInt64} (hD : D.toNat % 64 = d) (h : a < 2 ^ 62) : ((lN a).toUInt64 >>> D).toInt64 = lN (a / 2 ^ d) := by
  have hd : a / 2 ^ d ≤ a := Nat.div_le_self _ _
  have e : (lN a).toUInt64 >>> D = UInt64.ofNat (a / 2 ^ d) := UInt64.toNat_inj.mp (by
    rw [UInt64.toNat_shiftRight, hD, Nat.shiftRight_eq_div_pow, UInt64.toNat_ofNat']
    show (UInt64.ofNat a).toNat / 2 ^ d = _
    rw [UInt64.toNat_ofNat', Nat.mod_eq_of_lt (by omega), Nat.mod_eq_of_lt (by omega)])
  rw [e]
  rfl
theorem pf_andw (x : Int64) : ∃ m, m < 2 ^ 32 ∧ x &&& 4294967295 = lN m := ⟨x.toBitVec.toNat % 2 ^ 32, Nat.mod_lt _ (by decide), Int64.toBitVec_inj.mp (BitVec.eq_of_toNat_eq (by
  show (x.toBitVec &&& 4294967295#64).toNat = (BitVec.ofNat 64 (x.toBitVec.toNat % 2 ^ 32)).toNat
  rw [BitVec.toNat_and, show (4294967295#64).toNat = 2 ^ 32 - 1 from by decide, Nat.and_two_pow_sub_one_eq_mod, BitVec.toNat_ofNat]
  omega))⟩
/-! ===== Int64 as an unsigned number: uN x ===== -/
def uN (x : Int64) : Nat := x.toUInt64.toNat
theorem uN_lt (x : Int64) : uN x < 18446744073709551616 := x.toUInt64.toNat_lt
theorem uN_inj {x y : Int64} (h : uN x = uN y) : x = y := congrArg UInt64.toInt64 (UInt64.toNat_inj.mp h)
theorem uN_add (x y : Int64) : uN (x + y) = (uN x + uN y) % 18446744073709551616 := by
  show (x.toUInt64 + y.toUInt64).toNat = _
  exact UInt64.toNat_add _ _
theorem uN_mul (x y : Int64) : uN (x * y) = (uN x * uN y) % 18446744073709551616 := by
  show (x.toUInt64 * y.toUInt64).toNat = _
  exact UInt64.toNat_mul _ _
theorem uN_shl (x : Int64) : uN (x <<< ((1 : Int32).toInt64 &&& 63)) = (2 * uN x) % 18446744073709551616 := by
  have h : (((1 : Int32).toInt64 &&& 63).toBitVec.smod 64).toNat = 1 := by decide
  show (x.toBitVec <<< (((1 : Int32).toInt64 &&& 63).toBitVec.smod 64).toNat).toNat = _
  rw [h, BitVec.toNat_shiftLeft, Nat.shiftLeft_eq, Nat.mul_comm]
  rfl
theorem uN_shr (x : Int64) (s : UInt64) : uN (x.toUInt64 >>> s).toInt64 = uN x / 2 ^ (s.toNat % 64) := by
  show (x.toUInt64 >>> s).toNat = _
  rw [UInt64.toNat_shiftRight, Nat.shiftRight_eq_div_pow]
  rfl
theorem uN_s32 (x : Int64) : uN (x.toUInt64 >>> ((32 : Int32).toInt64.toUInt64 &&& Int64.toUInt64 63)).toInt64 = uN x / 4294967296 := by
  have h : ((32 : Int32).toInt64.toUInt64 &&& Int64.toUInt64 63).toNat % 64 = 32 := by decide
  rw [uN_shr, h]
theorem uN_s63 (x : Int64) : uN (x.toUInt64 >>> ((63 : Int32).toInt64.toUInt64 &&& Int64.toUInt64 63)).toInt64 = uN x / 9223372036854775808 := by
  have h : ((63 : Int32).toInt64.toUInt64 &&& Int64.toUInt64 63).toNat % 64 = 63 := by decide
  rw [uN_shr, h]
theorem uN_lo (x : Int64) : uN (x &&& 4294967295) = uN x % 4294967296 := by
  show (x.toUInt64 &&& Int64.toUInt64 4294967295).toNat = _
  rw [UInt64.toNat_and]
  exact Nat.and_two_pow_sub_one_eq_mod _ 32
theorem uN_bit (x : Int64) : (x &&& 1) = 0 ↔ uN x % 2 = 0 := by
  have h : uN (x &&& 1) = uN x % 2 := by
    show (x.toUInt64 &&& Int64.toUInt64 1).toNat = _
    rw [UInt64.toNat_and]
    exact Nat.and_two_pow_sub_one_eq_mod _ 1
  rw [← h]
  exact ⟨fun z => by rw [z]; rfl, fun z => uN_inj (z.trans rfl)⟩
theorem uN_or {x y : Int64} (hy : uN y < 2) : uN ((x <<< ((1 : Int32).toInt64 &&& 63)) ||| y) = (2 * uN x) % 18446744073709551616 + uN y := by
  have h1 : uN ((x <<< ((1 : Int32).toInt64 &&& 63)) ||| y) = uN (x <<< ((1 : Int32).toInt64 &&& 63)) ||| uN y := UInt64.toNat_or _ _
  have h2 : (2 * uN x) % 18446744073709551616 = 2 ^ 1 * (uN x % 9223372036854775808) := by omega
  rw [h1, uN_shl, h2]
  exact (Nat.two_pow_add_eq_or_of_lt (i := 1) hy _).symm
theorem nat_xor {a : Nat} (h : a < 18446744073709551616) : a ^^^ 2 ^ 63 = (a + 9223372036854775808) % 18446744073709551616 := by
  have h1 : (a ^^^ 2 ^ 63) % 2 ^ 63 = a % 2 ^ 63 := by rw [Nat.xor_mod_two_pow, Nat.mod_self, Nat.xor_zero]
  have h2 : (a ^^^ 2 ^ 63) / 2 ^ 63 = (a / 2 ^ 63) ^^^ 1 := by rw [Nat.xor_div_two_pow, Nat.div_self (Nat.two_pow_pos 63)]
  have h3 : a / 2 ^ 63 = 0 ∨ a / 2 ^ 63 = 1 := by omega
  generalize a ^^^ 2 ^ 63 = t at h1 h2
  rcases h3 with h3 | h3
  · rw [h3] at h2
    have h2 : t / 2 ^ 63 = 1 := h2
    omega
  · rw [h3] at h2
    have h2 : t / 2 ^ 63 = 0 := h2
    omega
theorem uN_xor (x : Int64) : uN (x ^^^ (-9223372036854775808)) = (uN x + 9223372036854775808) % 18446744073709551616 := by
  rw [← nat_xor (uN_lt x)]
  exact UInt64.toNat_xor _ _
theorem uN_int (x : Int64) : x.toInt = if 2 * uN x < 18446744073709551616 then (uN x : Int) else (uN x : Int) - 18446744073709551616 := BitVec.toInt_eq_toNat_cond _
theorem uN_le (x y : Int64) : (x ^^^ (-9223372036854775808)) ≤ (y ^^^ (-9223372036854775808)) ↔ uN x ≤ uN y := by
  have hx := uN_lt x
  have hy := uN_lt y
  rw [Int64.le_iff_toInt_le, uN_int, uN_int, uN_xor, uN_xor]
  omega
theorem uN_sk (x : Int64) {k : Nat} (hk : k < 64) : uN (x.toUInt64 >>> ((nI k).toInt64.toUInt64 &&& Int64.toUInt64 63)).toInt64 = uN x / 2 ^ k := by
  have h : ((nI k).toInt64.toUInt64 &&& Int64.toUInt64 63).toNat % 64 = k := by
    rw [nI_l (by omega), UInt64.toNat_and]
    have e : (lN k).toUInt64.toNat = k % 2 ^ 64 := rfl
    have e2 : (Int64.toUInt64 63).toNat = 2 ^ 6 - 1 := by decide
    rw [e, e2, Nat.and_two_pow_sub_one_eq_mod]
    omega
  rw [uN_shr, h]
/-! ===== unsigned comparison by xor with the least ===== -/
theorem lN_bv (n : Nat) : (lN n).toBitVec = BitVec.ofNat 64 n := rfl
theorem lN_nat {n : Nat} (h : n < 2 ^ 64) : (lN n).toBitVec.toNat = n := by rw [lN_bv, BitVec.toNat_ofNat]; exact Nat.mod_eq_of_lt h
theorem lN_xor (a b : Nat) : lN a ^^^ lN b = lN (a ^^^ b) := by
  apply Int64.toBitVec_inj.mp; rw [Int64.toBitVec_xor, lN_bv, lN_bv, lN_bv]; apply BitVec.eq_of_getLsbD_eq; intro i hi; simp [BitVec.getLsbD_ofNat, Nat.testBit_xor, hi]
theorem lN_ti {m : Nat} (h : m < 2 ^ 64) : (lN m).toInt = if m < 2 ^ 63 then (m : Int) else (m : Int) - 2 ^ 64 := by
  have c := BitVec.toInt_eq_toNat_cond (lN m).toBitVec
  rw [lN_nat h] at c
  show (lN m).toBitVec.toInt = _
  rw [c]
  split <;> split <;> omega
theorem xor63 {x : Nat} (h : x < 2 ^ 63) : x ^^^ 2 ^ 63 = 2 ^ 63 + x := by
  apply Nat.eq_of_testBit_eq
  intro i
  rw [Nat.testBit_xor, Nat.testBit_two_pow]
  rcases Nat.lt_trichotomy i 63 with z | z | z
  · rw [Nat.testBit_two_pow_add_gt z, decide_eq_false (by omega)]; simp
  · subst z; rw [Nat.testBit_two_pow_add_eq]; simp
  · have hp : 2 ^ 64 ≤ 2 ^ i := Nat.pow_le_pow_right (by decide) z
    rw [Nat.testBit_lt_two_pow (show x < 2 ^ i by omega), Nat.testBit_lt_two_pow (show 2 ^ 63 + x < 2 ^ i by omega), decide_eq_false (by omega)]; rfl
theorem xorS {a : Nat} (h : a < 2 ^ 64) : (lN a ^^^ (-9223372036854775808)).toInt = (a : Int) - 2 ^ 63 := by
  rw [show (-9223372036854775808 : Int64) = lN (2 ^ 63) from by decide +kernel, lN_xor]
  rcases Nat.lt_or_ge a (2 ^ 63) with z | z
  · rw [xor63 z, lN_ti (by omega), if_neg (by omega)]; omega
  · obtain ⟨x, rfl⟩ : ∃ x, a = 2 ^ 63 + x := ⟨a - 2 ^ 63, by omega⟩
    rw [← xor63 (by omega), Nat.xor_assoc, Nat.xor_self, Nat.xor_zero, lN_ti (by omega), if_pos (by omega), xor63 (by omega)]; omega
theorem ultL {a b : Nat} (ha : a < 2 ^ 64) (hb : b < 2 ^ 64) : ((lN b ^^^ (-9223372036854775808)) ≤ (lN a ^^^ (-9223372036854775808))) ↔ b ≤ a := by
  rw [Int64.le_iff_toInt_le, xorS ha, xorS hb]; omega
/-! ===== Int64 masks of n low bits ===== -/
theorem cr_bits (W U M : BitVec 64) : ((W &&& U) &&& (U &&& (M ^^^ BitVec.allOnes 64))) = 0#64 ↔ (W &&& U) &&& M = W &&& U := by
  constructor
  · intro h
    apply BitVec.eq_of_getLsbD_eq
    intro i hi
    have e := congrArg (fun x => BitVec.getLsbD x i) h
    simp only [BitVec.getLsbD_and, BitVec.getLsbD_xor, BitVec.getLsbD_allOnes, BitVec.getLsbD_zero, hi, decide_true] at e ⊢
    revert e
    cases W.getLsbD i <;> cases U.getLsbD i <;> cases M.getLsbD i <;> decide
  · intro h
    apply BitVec.eq_of_getLsbD_eq
    intro i hi
    have e := congrArg (fun x => BitVec.getLsbD x i) h
    simp only [BitVec.getLsbD_and, BitVec.getLsbD_xor, BitVec.getLsbD_allOnes, BitVec.getLsbD_zero, hi, decide_true] at e ⊢
    revert e
    cases W.getLsbD i <;> cases U.getLsbD i <;> cases M.getLsbD i <;> decide
theorem cr_mask (w U m : Int64) (n : Nat) (hm : m.toBitVec.toNat = 2 ^ n - 1) : ((w &&& U) &&& (U &&& (m ^^^ (-1)))) = 0 ↔ (w &&& U).toBitVec.toNat < 2 ^ n := by
  have e0 : (-1 : Int64).toBitVec = BitVec.allOnes 64 := by decide
  have z0 : (0 : Int64).toBitVec = 0#64 := by decide
  rw [← Int64.toBitVec_inj, z0, Int64.toBitVec_and, Int64.toBitVec_and, Int64.toBitVec_and, Int64.toBitVec_xor, e0, cr_bits]
  generalize w.toBitVec &&& U.toBitVec = T
  rw [← BitVec.toNat_inj, BitVec.toNat_and, hm, Nat.and_two_pow_sub_one_eq_mod]
  constructor
  · intro h
    have t := Nat.mod_lt T.toNat (Nat.two_pow_pos n)
    rw [h] at t
    exact t
  · exact Nat.mod_eq_of_lt
theorem cr_shr (t : Int64) (x : UInt64) (n : Nat) (hx : x.toNat % 64 = n) : (t.toUInt64 >>> x).toInt64 = 0 ↔ t.toBitVec.toNat < 2 ^ n := by
  rw [← Int64.toBitVec_inj, ← BitVec.toNat_inj]
  show (t.toUInt64 >>> x).toNat = 0 ↔ t.toUInt64.toNat < 2 ^ n
  rw [UInt64.toNat_shiftRight, hx, Nat.shiftRight_eq_div_pow]
  constructor
  · intro h
    have d : t.toUInt64.toNat / 2 ^ n < 1 := by
      rw [h]
      decide
    have e := (Nat.div_lt_iff_lt_mul (Nat.two_pow_pos n)).mp d
    rw [Nat.one_mul] at e
    exact e
  · exact Nat.div_eq_of_lt
theorem cr_amt (s : Int64) : ∃ n, n < 64 ∧ s &&& 63 = lN n ∧ (s.toUInt64 &&& Int64.toUInt64 63).toNat % 64 = n := by
  have e : (s.toUInt64 &&& Int64.toUInt64 63).toNat = s.toUInt64.toNat % 2 ^ 6 := by
    rw [UInt64.toNat_and, show (Int64.toUInt64 63).toNat = 2 ^ 6 - 1 from by decide, Nat.and_two_pow_sub_one_eq_mod]
  refine ⟨s.toUInt64.toNat % 2 ^ 6, by omega, ?_, by omega⟩
  rw [← Int64.toBitVec_inj, ← BitVec.toNat_inj]
  show (s.toUInt64 &&& Int64.toUInt64 63).toNat = (BitVec.ofNat 64 (s.toUInt64.toNat % 2 ^ 6)).toNat
  rw [e, BitVec.toNat_ofNat]
  omega
end
section
/-! numbers out of bits, ends, gates -/
def nb_n (f : Nat → Bool) : Nat → Nat
  | 0 => 0
  | k + 1 => nb_n f k + (f k).toNat * 2 ^ k
theorem nb_s (f : Nat → Bool) (k : Nat) : nb_n f (k + 1) = nb_n f k + (f k).toNat * 2 ^ k := rfl
theorem nb_lt (f : Nat → Bool) : ∀ k, nb_n f k < 2 ^ k := by
  intro k
  induction k with
  | zero => exact Nat.one_pos
  | succ k ih =>
    rw [nb_s]
    have h : (f k).toNat ≤ 1 := by cases f k <;> decide
    have h2 : (f k).toNat * 2 ^ k ≤ 1 * 2 ^ k := Nat.mul_le_mul_right _ h
    rw [Nat.pow_succ]
    omega
theorem nb_tb (f : Nat → Bool) : ∀ k i, (nb_n f k).testBit i = (decide (i < k) && f i) := by
  intro k
  induction k with
  | zero => intro i; simp [nb_n]
  | succ k ih =>
    intro i
    rw [nb_s, Nat.add_comm, Nat.mul_comm, Nat.testBit_two_pow_mul_add _ (nb_lt f k), ih, Nat.testBit_bool_toNat]
    by_cases h : i < k
    · rw [if_pos h]
      have h2 : i < k + 1 := by omega
      simp [h, h2]
    · rw [if_neg h]
      by_cases h3 : i = k
      · subst h3; simp
      · have h4 : ¬ i < k + 1 := by omega
        have h5 : ¬ i - k = 0 := by omega
        simp [h4, h5]
theorem nb_cg {f g : Nat → Bool} : ∀ k, (∀ i, i < k → f i = g i) → nb_n f k = nb_n g k := by
  intro k
  induction k with
  | zero => intro _; rfl
  | succ k ih =>
    intro h
    rw [nb_s, nb_s, ih (fun i hi => h i (by omega)), h k (by omega)]
theorem nb_of {n : Nat} : ∀ k, n < 2 ^ k → nb_n (fun i => n.testBit i) k = n := by
  intro k h
  apply Nat.eq_of_testBit_eq
  intro i
  rw [nb_tb]
  by_cases hi : i < k
  · simp [hi]
  · have : n.testBit i = false := Nat.testBit_lt_two_pow (Nat.lt_of_lt_of_le h (Nat.pow_le_pow_right (by decide) (by omega)))
    simp [this]
theorem nb_eq {f : Nat → Bool} {n k : Nat} (hn : n < 2 ^ k) (h : ∀ i, i < k → f i = n.testBit i) : nb_n f k = n := by
  rw [nb_cg k h]
  exact nb_of k hn
theorem nb_bit {f : Nat → Bool} {n k : Nat} (h : nb_n f k = n) : ∀ i, i < k → f i = n.testBit i := by
  intro i hi
  rw [← h, nb_tb]
  simp [hi]
theorem nb_mod (f : Nat → Bool) : ∀ k j, j ≤ k → nb_n f k % 2 ^ j = nb_n f j := by
  intro k j h
  apply Nat.eq_of_testBit_eq
  intro i
  rw [Nat.testBit_mod_two_pow, nb_tb, nb_tb]
  by_cases hi : i < j
  · have : i < k := by omega
    simp [hi, this]
  · simp [hi]
theorem nb_not (f : Nat → Bool) : ∀ k, nb_n (fun i => !f i) k + nb_n f k + 1 = 2 ^ k := by
  intro k
  induction k with
  | zero => rfl
  | succ k ih =>
    rw [nb_s, nb_s, Nat.pow_succ]
    cases f k
    · simp; omega
    · simp; omega
/-! an end under a valuation of the nodes -/
def nb_lit (w : Nat → Bool) (e : Int32) : Bool := (w (e.toNatClampNeg / 2) ^^ decide (e.toNatClampNeg % 2 = 1))
theorem nb_litN (w : Nat → Bool) {m : Nat} (h : m < 2 ^ 31) : nb_lit w (nI m) = (w (m / 2) ^^ decide (m % 2 = 1)) := by
  unfold nb_lit
  rw [nI_clamp h]
theorem nb_xor1 (m : Nat) : nI m ^^^ 1 = nI (m ^^^ 1) := nx_xor m 1
theorem nb_x1d (m : Nat) : (m ^^^ 1) / 2 = m / 2 := by
  rw [Nat.xor_div_two]
  simp
theorem nb_x1m (m : Nat) : (m ^^^ 1) % 2 = 1 - m % 2 := by
  have h := @Nat.xor_mod_two_eq_one m 1
  rcases Nat.mod_two_eq_zero_or_one m with z | z
  · have : (m ^^^ 1) % 2 = 1 := h.mpr (by simp [z])
    omega
  · have : ¬ (m ^^^ 1) % 2 = 1 := fun q => (h.mp q) (by simp [z])
    omega
theorem nb_litx (w : Nat → Bool) {m : Nat} (h : m < 720) : nb_lit w (nI m ^^^ 1) = !nb_lit w (nI m) := by
  have e1 := nb_x1d m
  have e2 := nb_x1m m
  rw [nb_xor1, nb_litN w (by omega), nb_litN w (by omega), e1, e2]
  rcases Nat.mod_two_eq_zero_or_one m with z | z <;> rw [z] <;> cases w (m / 2) <;> decide
theorem nb_lit0 (w : Nat → Bool) : nb_lit w 0 = w 0 := by
  have := nb_litN w (m := 0) (by decide)
  rw [nI_0] at this
  rw [this]; simp
theorem nb_lit1 (w : Nat → Bool) : nb_lit w 1 = !w 0 := by
  have := nb_litN w (m := 1) (by decide)
  rw [show (1 : Int32) = nI 1 from rfl, this]; simp
theorem nb_lit2 (w : Nat → Bool) {n : Nat} (h : n < 360) : nb_lit w (nI (2 * n)) = w n := by
  rw [nb_litN w (by omega), show 2 * n / 2 = n from by omega, show 2 * n % 2 = 0 from by omega]
  simp
/-! small types -/
theorem nr_s {a : Nat} (h : a < 32768) : vp_nar .short (nI a).toInt16.toInt32 = nI a := by
  rw [pk_vs]
  exact lg_i2s_small (by rw [nI_toInt (by omega)]; omega) (by rw [nI_toInt (by omega)]; omega)
theorem nr_s0 {a : Nat} (h : a < 32768) : vp_nar .short (nI a) = nI a := by
  rw [vp_nar_short]
  exact lg_i2s_small (by rw [nI_toInt (by omega)]; omega) (by rw [nI_toInt (by omega)]; omega)
theorem nr_b {a : Nat} (h : a < 128) : vp_nar .byte (nI a).toInt8.toInt32 = nI a := by
  rw [pk_vb]
  exact lg_i2b_small (by rw [nI_toInt (by omega)]; omega) (by rw [nI_toInt (by omega)]; omega)
theorem nr_b0 {a : Nat} (h : a < 128) : vp_nar .byte (nI a) = nI a := by
  rw [vp_nar_byte]
  exact lg_i2b_small (by rw [nI_toInt (by omega)]; omega) (by rw [nI_toInt (by omega)]; omega)
theorem nr_sm : vp_nar .short (-1) = -1 := by rw [vp_nar_short]; decide
theorem nr_bm : vp_nar .byte (-1) = -1 := by rw [vp_nar_byte]; decide
theorem nr_bm' : vp_nar .byte (-1 : Int32).toInt8.toInt32 = -1 := by rw [vp_nar_byte]; decide
theorem nr_m0 : (-1 : Int32) < 0 := by decide
theorem nr_ne {a : Nat} (h : a < 2 ^ 31) : nI a ≠ -1 := by
  intro e
  have := nI_pos h
  rw [e] at this
  exact this (by decide)
/-! gates: node count, first legs, second legs, next in list, first in list -/
abbrev ga_C : Type := Int32 × (Nat → Int32) × (Nat → Int32) × (Nat → Int32) × (Nat → Int32)
def ga_M (c : ga_C) : Nat := c.1.toNatClampNeg
def ga_cnt (la : Nat → Int32) : Nat → Nat
  | 0 => 0
  | n + 1 => ga_cnt la n + (if la n = -1 then 0 else 1)
def ga_leg (c : ga_C) (n : Nat) : Prop := c.2.1 n = -1 ∨ ∃ a b, c.2.1 n = nI a ∧ c.2.2.1 n = nI b ∧ a < 2 * n ∧ b < 2 * n
def ga_lst (c : ga_C) : Prop := (∀ l, l < 64 → ∃ m, c.2.2.2.2 l = nI m ∧ m < ga_M c ∧ (m = 0 ∨ c.2.1 m ≠ -1)) ∧ (∀ n, n < ga_M c → c.2.1 n ≠ -1 → ∃ m, c.2.2.2.1 n = nI m ∧ m < n ∧ (m = 0 ∨ c.2.1 m ≠ -1))
def ga_ok (c : ga_C) (S B : Nat) : Prop := c.1 = nI (ga_M c) ∧ 0 < ga_M c ∧ ga_M c ≤ 1 + S + B ∧ ga_cnt c.2.1 (ga_M c) ≤ B ∧ c.2.1 0 = -1 ∧ (∀ n, n < ga_M c → ga_leg c n) ∧ ga_lst c
def ga_con (c : ga_C) (w : Nat → Bool) : Prop := w 0 = false ∧ ∀ n, n < ga_M c → c.2.1 n ≠ -1 → w n = (nb_lit w (c.2.1 n) && nb_lit w (c.2.2.1 n))
def ga_ex (c c' : ga_C) : Prop := ga_M c ≤ ga_M c' ∧ ∀ n, n < ga_M c → c'.2.1 n = c.2.1 n ∧ c'.2.2.1 n = c.2.2.1 n
def ga_en (c : ga_C) (e : Int32) : Prop := ∃ m, e = nI m ∧ m < 2 * ga_M c ∧ m < 720
def ga_rz (c c' : ga_C) (S B : Nat) (r : Int32) (f : (Nat → Bool) → Bool) : Prop := ga_ex c c' ∧ ga_ok c' S B ∧ ga_en c' r ∧ ∀ w, ga_con c' w → nb_lit w r = f w
theorem ga_ex_r (c : ga_C) : ga_ex c c := ⟨Nat.le_refl _, fun _ _ => ⟨rfl, rfl⟩⟩
theorem ga_ex_t {a b c : ga_C} (h : ga_ex a b) (g : ga_ex b c) : ga_ex a c :=
  ⟨Nat.le_trans h.1 g.1, fun n hn => ⟨((g.2 n (Nat.lt_of_lt_of_le hn h.1)).1).trans (h.2 n hn).1, ((g.2 n (Nat.lt_of_lt_of_le hn h.1)).2).trans (h.2 n hn).2⟩⟩
theorem ga_con_e {c c' : ga_C} {w : Nat → Bool} (h : ga_ex c c') (g : ga_con c' w) : ga_con c w := by
  refine ⟨g.1, fun n hn hg => ?_⟩
  have e := h.2 n hn
  rw [← e.1, ← e.2]
  exact g.2 n (Nat.lt_of_lt_of_le hn h.1) (by rw [e.1]; exact hg)
theorem ga_en_e {c c' : ga_C} {e : Int32} (h : ga_ex c c') (g : ga_en c e) : ga_en c' e := by
  obtain ⟨m, e1, h1, h2⟩ := g
  exact ⟨m, e1, by have := h.1; omega, h2⟩
theorem ga_mono {c : ga_C} {S B S' B' : Nat} (h : ga_ok c S B) (hS : S ≤ S') (hB : B ≤ B') : ga_ok c S' B' := by
  obtain ⟨h1, h2, h3, h4, h5⟩ := h
  exact ⟨h1, h2, by omega, by omega, h5⟩
theorem ga_en0 {c : ga_C} {S B : Nat} (h : ga_ok c S B) : ga_en c 0 := ⟨0, rfl, by have := h.2.1; omega, by omega⟩
theorem ga_en1 {c : ga_C} {S B : Nat} (h : ga_ok c S B) : ga_en c 1 := ⟨1, rfl, by have := h.2.1; omega, by omega⟩
theorem ga_l0 {c : ga_C} {w : Nat → Bool} (h : ga_con c w) : nb_lit w 0 = false := by rw [nb_lit0]; exact h.1
theorem ga_l1 {c : ga_C} {w : Nat → Bool} (h : ga_con c w) : nb_lit w 1 = true := by rw [nb_lit1, h.1]; rfl
theorem ga_enx {c : ga_C} {e : Int32} (h : ga_en c e) : ga_en c (e ^^^ 1) := by
  obtain ⟨m, rfl, h1, h2⟩ := h
  refine ⟨m ^^^ 1, nb_xor1 m, ?_, ?_⟩
  · have e1 := nb_x1d m
    have e2 := nb_x1m m
    omega
  · have e1 := nb_x1d m
    have e2 := nb_x1m m
    omega
theorem ga_lx {c : ga_C} {e : Int32} (h : ga_en c e) (w : Nat → Bool) : nb_lit w (e ^^^ 1) = !nb_lit w e := by
  obtain ⟨m, rfl, h1, h2⟩ := h
  exact nb_litx w h2
theorem ga_cnt_c {la lb : Nat → Int32} : ∀ n, (∀ i, i < n → la i = lb i) → ga_cnt la n = ga_cnt lb n := by
  intro n
  induction n with
  | zero => intro _; rfl
  | succ n ih =>
    intro h
    show ga_cnt la n + _ = ga_cnt lb n + _
    rw [ih (fun i hi => h i (by omega)), h n (by omega)]
theorem ga_lo {n : Nat} {i : Nat} {f : Nat → Int32} {x : Int32} (h : i < n) : upd f n x i = f i := if_neg (by omega)
/-- a new gate -/
theorem ga_new {c : ga_C} {S B a b l : Nat} (h : ga_ok c S B) (ha : a < 2 * ga_M c) (hb : b < 2 * ga_M c) (hl : l < 64) (hr : S + B + 1 ≤ 355) :
    ga_rz c (nI (ga_M c + 1), upd c.2.1 (ga_M c) (nI a), upd c.2.2.1 (ga_M c) (nI b), upd c.2.2.2.1 (ga_M c) (c.2.2.2.2 l), upd c.2.2.2.2 l (nI (ga_M c))) S (B + 1) (nI (2 * ga_M c)) (fun w => nb_lit w (nI a) && nb_lit w (nI b)) := by
  obtain ⟨h1, h2, h3, h4, h5, h6, h7, h8⟩ := h
  generalize hc' : (nI (ga_M c + 1), upd c.2.1 (ga_M c) (nI a), upd c.2.2.1 (ga_M c) (nI b), upd c.2.2.2.1 (ga_M c) (c.2.2.2.2 l), upd c.2.2.2.2 l (nI (ga_M c))) = c'
  have m1 : c'.1 = nI (ga_M c + 1) := by rw [← hc']
  have eM : ga_M c' = ga_M c + 1 := by unfold ga_M; rw [m1]; exact nI_clamp (by unfold ga_M at *; omega)
  have eA : c'.2.1 = upd c.2.1 (ga_M c) (nI a) := by rw [← hc']
  have eB : c'.2.2.1 = upd c.2.2.1 (ga_M c) (nI b) := by rw [← hc']
  have eN : c'.2.2.2.1 = upd c.2.2.2.1 (ga_M c) (c.2.2.2.2 l) := by rw [← hc']
  have eF : c'.2.2.2.2 = upd c.2.2.2.2 l (nI (ga_M c)) := by rw [← hc']
  have gA : c'.2.1 (ga_M c) = nI a := by rw [eA]; exact pk_us
  have gB : c'.2.2.1 (ga_M c) = nI b := by rw [eB]; exact pk_us
  have oA : ∀ n, n < ga_M c → c'.2.1 n = c.2.1 n := fun n hn => by rw [eA]; exact ga_lo hn
  have oB : ∀ n, n < ga_M c → c'.2.2.1 n = c.2.2.1 n := fun n hn => by rw [eB]; exact ga_lo hn
  have hE : ga_ex c c' := ⟨by omega, fun n hn => ⟨oA n hn, oB n hn⟩⟩
  have hg : c'.2.1 (ga_M c) ≠ -1 := by rw [gA]; exact nr_ne (by omega)
  refine ⟨hE, ⟨by rw [m1, eM], by omega, by omega, ?_, ?_, ?_, ?_, ?_⟩, ⟨2 * ga_M c, rfl, by omega, by omega⟩, ?_⟩
  · rw [eM]
    show ga_cnt c'.2.1 (ga_M c) + _ ≤ _
    rw [ga_cnt_c (ga_M c) oA]
    split <;> omega
  · rw [oA 0 h2]; exact h5
  · intro n hn
    by_cases e : n = ga_M c
    · subst e
      exact Or.inr ⟨a, b, gA, gB, ha, hb⟩
    · have hn' : n < ga_M c := by omega
      rcases h6 n hn' with z | ⟨x, y, z1, z2, z3⟩
      · exact Or.inl (by rw [oA n hn']; exact z)
      · exact Or.inr ⟨x, y, by rw [oA n hn']; exact z1, by rw [oB n hn']; exact z2, z3⟩
  · intro k hk
    rw [eF]
    by_cases e : k = l
    · subst e
      exact ⟨ga_M c, pk_us, by omega, Or.inr hg⟩
    · obtain ⟨m, z1, z2, z3⟩ := h7 k hk
      refine ⟨m, by rw [pk_un e]; exact z1, by omega, ?_⟩
      rw [oA m z2]
      exact z3
  · intro n hn hgn
    rw [eN]
    by_cases e : n = ga_M c
    · subst e
      obtain ⟨m, z1, z2, z3⟩ := h7 l hl
      refine ⟨m, by rw [pk_us]; exact z1, z2, ?_⟩
      rw [oA m z2]
      exact z3
    · have hn' : n < ga_M c := by omega
      rw [oA n hn'] at hgn
      obtain ⟨m, z1, z2, z3⟩ := h8 n hn' hgn
      refine ⟨m, by rw [pk_un e]; exact z1, z2, ?_⟩
      rw [oA m (by omega)]
      exact z3
  · intro w hw
    rw [nb_lit2 w (by omega), hw.2 (ga_M c) (by omega) hg, gA, gB]
/-- a new source -/
theorem ga_src {c : ga_C} {S B : Nat} (h : ga_ok c S B) (hr : S + B + 1 ≤ 355) :
    ga_ex c (nI (ga_M c + 1), upd c.2.1 (ga_M c) (-1), upd c.2.2.1 (ga_M c) (-1), c.2.2.2.1, c.2.2.2.2) ∧ ga_ok (nI (ga_M c + 1), upd c.2.1 (ga_M c) (-1), upd c.2.2.1 (ga_M c) (-1), c.2.2.2.1, c.2.2.2.2) (S + 1) B ∧ ga_M (nI (ga_M c + 1), upd c.2.1 (ga_M c) (-1), upd c.2.2.1 (ga_M c) (-1), c.2.2.2.1, c.2.2.2.2) = ga_M c + 1 := by
  obtain ⟨h1, h2, h3, h4, h5, h6, h7, h8⟩ := h
  generalize hc' : (nI (ga_M c + 1), upd c.2.1 (ga_M c) (-1), upd c.2.2.1 (ga_M c) (-1), c.2.2.2.1, c.2.2.2.2) = c'
  have m1 : c'.1 = nI (ga_M c + 1) := by rw [← hc']
  have eM : ga_M c' = ga_M c + 1 := by unfold ga_M; rw [m1]; exact nI_clamp (by unfold ga_M at *; omega)
  have eA : c'.2.1 = upd c.2.1 (ga_M c) (-1) := by rw [← hc']
  have eB : c'.2.2.1 = upd c.2.2.1 (ga_M c) (-1) := by rw [← hc']
  have eN : c'.2.2.2.1 = c.2.2.2.1 := by rw [← hc']
  have eF : c'.2.2.2.2 = c.2.2.2.2 := by rw [← hc']
  have gA : c'.2.1 (ga_M c) = -1 := by rw [eA]; exact pk_us
  have oA : ∀ n, n < ga_M c → c'.2.1 n = c.2.1 n := fun n hn => by rw [eA]; exact ga_lo hn
  have oB : ∀ n, n < ga_M c → c'.2.2.1 n = c.2.2.1 n := fun n hn => by rw [eB]; exact ga_lo hn
  refine ⟨⟨by omega, fun n hn => ⟨oA n hn, oB n hn⟩⟩, ⟨by rw [m1, eM], by omega, by omega, ?_, ?_, ?_, ?_, ?_⟩, eM⟩
  · rw [eM]
    show ga_cnt c'.2.1 (ga_M c) + _ ≤ _
    rw [ga_cnt_c (ga_M c) oA, if_pos gA]
    omega
  · rw [oA 0 h2]; exact h5
  · intro n hn
    by_cases e : n = ga_M c
    · subst e
      exact Or.inl gA
    · have hn' : n < ga_M c := by omega
      rcases h6 n hn' with z | ⟨x, y, z1, z2, z3⟩
      · exact Or.inl (by rw [oA n hn']; exact z)
      · exact Or.inr ⟨x, y, by rw [oA n hn']; exact z1, by rw [oB n hn']; exact z2, z3⟩
  · intro k hk
    rw [eF]
    obtain ⟨m, z1, z2, z3⟩ := h7 k hk
    refine ⟨m, z1, by omega, ?_⟩
    rw [oA m z2]
    exact z3
  · intro n hn hgn
    rw [eN]
    by_cases e : n = ga_M c
    · subst e
      exact absurd gA hgn
    · have hn' : n < ga_M c := by omega
      rw [oA n hn'] at hgn
      obtain ⟨m, z1, z2, z3⟩ := h8 n hn' hgn
      refine ⟨m, z1, z2, ?_⟩
      rw [oA m (by omega)]
      exact z3
/-- for any values of the sources there is a consistent valuation -/
theorem ga_eval {c : ga_C} {S B : Nat} (h : ga_ok c S B) (hr : S + B ≤ 355) (f : Nat → Bool) : ∃ w, ga_con c w ∧ ∀ n, 0 < n → n < ga_M c → c.2.1 n = -1 → w n = f n := by
  obtain ⟨h1, h2, h3, h4, h5, h6, -⟩ := h
  have key : ∀ m, m ≤ ga_M c → ∃ w : Nat → Bool, w 0 = false ∧ (∀ n, n < m → c.2.1 n ≠ -1 → w n = (nb_lit w (c.2.1 n) && nb_lit w (c.2.2.1 n))) ∧ ∀ n, 0 < n → n < m → c.2.1 n = -1 → w n = f n := by
    intro m
    induction m with
    | zero => intro _; exact ⟨fun _ => false, rfl, fun n hn => absurd hn (by omega), fun n _ hn => absurd hn (by omega)⟩
    | succ m ih =>
      intro hm
      obtain ⟨w, w0, w1, w2⟩ := ih (by omega)
      by_cases z : m = 0
      · subst z
        refine ⟨w, w0, fun n hn hg => ?_, fun n h0 hn => absurd hn (by omega)⟩
        have : n = 0 := by omega
        subst this
        exact absurd h5 hg
      · have low : ∀ (x : Bool) (n a : Nat), n ≤ m → a < 2 * n → a < 2 ^ 31 → nb_lit (fun j => if j = m then x else w j) (nI a) = nb_lit w (nI a) := by
          intro x n a hn ha h31
          rw [nb_litN _ h31, nb_litN _ h31]
          show ((if a / 2 = m then x else w (a / 2)) ^^ _) = _
          rw [if_neg (by omega)]
        have M31 : ga_M c < 2 ^ 31 := by
          unfold ga_M
          have := Int32.toNatClampNeg_lt c.1
          omega
        by_cases g : c.2.1 m = -1
        · refine ⟨fun j => if j = m then f m else w j, by show (if 0 = m then _ else _) = _; rw [if_neg (by omega)]; exact w0, fun n hn hg => ?_, fun n h0 hn hg => ?_⟩
          · have hn' : n < m := by
              rcases Nat.lt_succ_iff_lt_or_eq.mp hn with q | q
              · exact q
              · rw [q] at hg; exact absurd g hg
            rcases h6 n (by omega) with z' | ⟨a, b, z1, z2, z3, z4⟩
            · exact absurd z' hg
            · show (if n = m then _ else _) = _
              rw [if_neg (by omega), w1 n hn' hg, z1, z2, low _ n a (by omega) z3 (by omega), low _ n b (by omega) z4 (by omega)]
          · show (if n = m then _ else _) = _
            by_cases q : n = m
            · rw [if_pos q, q]
            · rw [if_neg q]; exact w2 n h0 (by omega) hg
        · rcases h6 m (by omega) with z' | ⟨a, b, z1, z2, z3, z4⟩
          · exact absurd z' g
          · refine ⟨fun j => if j = m then (nb_lit w (nI a) && nb_lit w (nI b)) else w j, by show (if 0 = m then _ else _) = _; rw [if_neg (by omega)]; exact w0, fun n hn hg => ?_, fun n h0 hn hg => ?_⟩
            · by_cases q : n = m
              · subst q
                rw [z1, z2, low _ n a (by omega) z3 (by omega), low _ n b (by omega) z4 (by omega)]
                show (if n = n then _ else _) = _
                rw [if_pos rfl]
              · rcases h6 n (by omega) with z' | ⟨a', b', y1, y2, y3, y4⟩
                · exact absurd z' hg
                · show (if n = m then _ else _) = _
                  rw [if_neg q, w1 n (by omega) hg, y1, y2, low _ n a' (by omega) y3 (by omega), low _ n b' (by omega) y4 (by omega)]
            · by_cases q : n = m
              · rw [q] at hg; exact absurd hg g
              · show (if n = m then _ else _) = _
                rw [if_neg q]; exact w2 n h0 (by omega) hg
  obtain ⟨w, w0, w1, w2⟩ := key (ga_M c) (Nat.le_refl _)
  exact ⟨w, ⟨w0, w1⟩, w2⟩
end
section
/-! the walks of and, or, xor, pick, end, setEnd, newSource -/
section
variable {sN sC sW pP pD pE tc lV bU pL wH sE : Int32} {kd ox oy oz wd fo su rd dp nx en hS wO nO nW eo so ne io td tf tb : Nat → Int32} {vA cH mK cA sK : Nat → Int64}
variable {c : ga_C}
theorem gw_and83 {post : Int32 → SX → Prop} {S B a b l : Nat} (h : ga_ok c S B) (ha : a < 2 * ga_M c) (hb : b < 2 * ga_M c) (hl : l < 64) (hr : S + B + 1 ≤ 355)
    (K : ∀ r c', ga_rz c c' S (B + 1) r (fun w => nb_lit w (nI a) && nb_lit w (nI b)) → post r (sN, sC, sW, pP, pD, pE, c'.1, tc, lV, bU, pL, wH, sE, kd, ox, oy, oz, wd, fo, su, rd, dp, nx, en, hS, wO, nO, nW, c'.2.1, c'.2.2.1, c'.2.2.2.1, c'.2.2.2.2, eo, so, ne, io, td, tf, tb, vA, cH, mK, cA, sK)) :
    ∀ n m : Nat, m < n → m < ga_M c → (m = 0 ∨ c.2.1 m ≠ -1) → wX_and_83 post (nI a) (nI b) (nI l) sN sC sW pP pD pE c.1 tc lV bU pL wH sE kd ox oy oz wd fo su rd dp nx en hS wO nO nW c.2.1 c.2.2.1 c.2.2.2.1 c.2.2.2.2 eo so ne io td tf tb vA cH mK cA sK n (nI m) := by
  have h' := h
  obtain ⟨h1, h2, h3, h4, h5, h6, h7, h8⟩ := h'
  have hin : vp_in c.1 360 := by rw [h1]; exact vp_in_nI (by omega) (by omega)
  have hlin : vp_in (nI l) 64 := vp_in_nI hl (by omega)
  have hlc : (nI l).toNatClampNeg = l := nI_clamp (by omega)
  intro n
  induction n with
  | zero => intro m hm; omega
  | succ n ih =>
    intro m hm hM hg
    unfold wX_and_83
    refine pk_le m 0 (fun h0 => ?_) (fun h0 => ?_)
    · intro nc' enc
      refine ⟨hin, ?_⟩
      intro la' ela
      refine ⟨hin, ?_⟩
      intro lb' elb
      refine ⟨hlin, hin, ?_⟩
      intro nl' enl
      refine ⟨hlin, ?_⟩
      intro fl' efl
      have e1 : nc' = nI (ga_M c + 1) := by rw [enc, h1]; exact nI_1 _
      have e2 : la' = upd c.2.1 (ga_M c) (nI a) := by rw [ela, nr_s (by omega)]; rfl
      have e3 : lb' = upd c.2.2.1 (ga_M c) (nI b) := by rw [elb, nr_s (by omega)]; rfl
      have e4 : nl' = upd c.2.2.2.1 (ga_M c) (c.2.2.2.2 l) := by
        obtain ⟨m0, z1, z2, z3⟩ := h7 l hl
        rw [enl, hlc, z1, nr_s0 (by omega)]
        rfl
      have e5 : fl' = upd c.2.2.2.2 l (nI (ga_M c)) := by rw [efl, hlc, h1, nr_s (by omega)]
      have e6 : 2 * c.1 = nI (2 * ga_M c) := by rw [h1]; exact pk_mul 2 _
      have k := K _ _ (ga_new h ha hb hl hr)
      rw [e1, e2, e3, e4, e5, e6]
      exact k
    · have hmin : vp_in (nI m) 360 := vp_in_nI (by omega) (by omega)
      have hmc : (nI m).toNatClampNeg = m := nI_clamp (by omega)
      have hgm : c.2.1 m ≠ -1 := by
        rcases hg with z | z
        · omega
        · exact z
      obtain ⟨m', n1, n2, n3⟩ := h8 m hM hgm
      have next : ∀ y, y = c.2.2.2.1 (nI m).toNatClampNeg → wX_and_83 post (nI a) (nI b) (nI l) sN sC sW pP pD pE c.1 tc lV bU pL wH sE kd ox oy oz wd fo su rd dp nx en hS wO nO nW c.2.1 c.2.2.1 c.2.2.2.1 c.2.2.2.2 eo so ne io td tf tb vA cH mK cA sK n y := by
        intro y ey
        rw [hmc, n1] at ey
        rw [ey]
        exact ih m' (by omega) (by omega) n3
      refine ⟨hmin, ?_⟩
      by_cases q1 : c.2.1 (nI m).toNatClampNeg = nI a
      · refine br_t q1 ⟨hmin, ?_⟩
        by_cases q2 : c.2.2.1 (nI m).toNatClampNeg = nI b
        · refine br_t q2 ?_
          rw [hmc] at q1 q2
          have e6 : 2 * nI m = nI (2 * m) := pk_mul 2 m
          rw [e6]
          exact K (nI (2 * m)) c ⟨ga_ex_r c, ga_mono h (Nat.le_refl _) (Nat.le_succ _), ⟨2 * m, rfl, by omega, by omega⟩, fun w hw => by
            rw [nb_lit2 w (by omega), hw.2 m hM hgm, q1, q2]⟩
        · exact br_f q2 ⟨hmin, next⟩
      · exact br_f q1 ⟨hmin, next⟩
theorem gw_and57 {post : Int32 → SX → Prop} {S B a b : Nat} (h : ga_ok c S B) (ha : a < 2 * ga_M c) (hb : b < 2 * ga_M c) (hr : S + B + 1 ≤ 355)
    (K : ∀ r c', ga_rz c c' S (B + 1) r (fun w => nb_lit w (nI a) && nb_lit w (nI b)) → post r (sN, sC, sW, pP, pD, pE, c'.1, tc, lV, bU, pL, wH, sE, kd, ox, oy, oz, wd, fo, su, rd, dp, nx, en, hS, wO, nO, nW, c'.2.1, c'.2.2.1, c'.2.2.2.1, c'.2.2.2.2, eo, so, ne, io, td, tf, tb, vA, cH, mK, cA, sK)) : wX_and_57 post (nI a) (nI b) sN sC sW pP pD pE c.1 tc lV bU pL wH sE kd ox oy oz wd fo su rd dp nx en hS wO nO nW c.2.1 c.2.2.1 c.2.2.2.1 c.2.2.2.2 eo so ne io td tf tb vA cH mK cA sK := by
  unfold wX_and_57
  intro y ey
  obtain ⟨l, hl, el⟩ := pk_andE ((nI a * 7) + (nI b * 13)) (m := 63) 6 (by decide)
  have ey2 := ey.trans el
  rw [ey2]
  refine ⟨vp_in_nI (by omega) (by omega), ?_⟩
  intro x ex
  obtain ⟨m, z1, z2, z3⟩ := h.2.2.2.2.2.2.1 l (by omega)
  rw [nI_clamp (by omega), z1] at ex
  rw [ex]
  exact ⟨m + 1, gw_and83 h ha hb (by omega) hr K (m + 1) m (by omega) z2 z3⟩
theorem gw_and {post : Int32 → SX → Prop} {S B : Nat} {a b : Int32} (h : ga_ok c S B) (ha : ga_en c a) (hb : ga_en c b) (hr : S + B + 1 ≤ 355)
    (K : ∀ r c', ga_rz c c' S (B + 1) r (fun w => nb_lit w a && nb_lit w b) → post r (sN, sC, sW, pP, pD, pE, c'.1, tc, lV, bU, pL, wH, sE, kd, ox, oy, oz, wd, fo, su, rd, dp, nx, en, hS, wO, nO, nW, c'.2.1, c'.2.2.1, c'.2.2.2.1, c'.2.2.2.2, eo, so, ne, io, td, tf, tb, vA, cH, mK, cA, sK)) : wpX_and post (sN, sC, sW, pP, pD, pE, c.1, tc, lV, bU, pL, wH, sE, kd, ox, oy, oz, wd, fo, su, rd, dp, nx, en, hS, wO, nO, nW, c.2.1, c.2.2.1, c.2.2.2.1, c.2.2.2.2, eo, so, ne, io, td, tf, tb, vA, cH, mK, cA, sK) a b := by
  have ha0 := ha
  have hb0 := hb
  obtain ⟨a, rfl, ha1, ha2⟩ := ha
  obtain ⟨b, rfl, hb1, hb2⟩ := hb
  have same : ∀ r, ga_en c r → (∀ w, ga_con c w → nb_lit w r = (nb_lit w (nI a) && nb_lit w (nI b))) → post r (sN, sC, sW, pP, pD, pE, c.1, tc, lV, bU, pL, wH, sE, kd, ox, oy, oz, wd, fo, su, rd, dp, nx, en, hS, wO, nO, nW, c.2.1, c.2.2.1, c.2.2.2.1, c.2.2.2.2, eo, so, ne, io, td, tf, tb, vA, cH, mK, cA, sK) := fun r hr1 hr2 => K r c ⟨ga_ex_r c, ga_mono h (Nat.le_refl _) (Nat.le_succ _), hr1, hr2⟩
  unfold wpX_and
  refine br_c (fun e => ?_) (fun e1 => br_c (fun e => ?_) (fun e2 => br_c (fun e => ?_) (fun e3 => br_c (fun e => ?_) (fun e4 => br_c (fun e => ?_) (fun e5 => br_c (fun e => ?_) (fun e6 => br_c (fun e => ?_) (fun e7 => ?_)))))))
  · exact same 0 (ga_en0 h) (fun w hw => by simp [e, ga_l0 hw])
  · exact same 0 (ga_en0 h) (fun w hw => by simp [e, ga_l0 hw])
  · exact same 0 (ga_en0 h) (fun w hw => by
      rw [e, ga_lx hb0, ga_l0 hw]
      cases nb_lit w (nI b) <;> rfl)
  · exact same _ hb0 (fun w hw => by
      rw [e, ga_l1 hw]
      cases nb_lit w (nI b) <;> rfl)
  · exact same _ hb0 (fun w hw => by
      rw [e]
      cases nb_lit w (nI b) <;> rfl)
  · exact same _ ha0 (fun w hw => by
      rw [e, ga_l1 hw]
      cases nb_lit w (nI a) <;> rfl)
  · unfold wX_and_46
    exact br_t e (gw_and57 h hb1 ha1 hr (fun r c' z => K r c' ⟨z.1, z.2.1, z.2.2.1, fun w hw => (z.2.2.2 w hw).trans (Bool.and_comm _ _)⟩))
  · unfold wX_and_46
    exact br_f e7 (gw_and57 h ha1 hb1 hr K)
theorem gw_or {post : Int32 → SX → Prop} {S B : Nat} {a b : Int32} (h : ga_ok c S B) (ha : ga_en c a) (hb : ga_en c b) (hr : S + B + 1 ≤ 355)
    (K : ∀ r c', ga_rz c c' S (B + 1) r (fun w => nb_lit w a || nb_lit w b) → post r (sN, sC, sW, pP, pD, pE, c'.1, tc, lV, bU, pL, wH, sE, kd, ox, oy, oz, wd, fo, su, rd, dp, nx, en, hS, wO, nO, nW, c'.2.1, c'.2.2.1, c'.2.2.2.1, c'.2.2.2.2, eo, so, ne, io, td, tf, tb, vA, cH, mK, cA, sK)) : wpX_or post (sN, sC, sW, pP, pD, pE, c.1, tc, lV, bU, pL, wH, sE, kd, ox, oy, oz, wd, fo, su, rd, dp, nx, en, hS, wO, nO, nW, c.2.1, c.2.2.1, c.2.2.2.1, c.2.2.2.2, eo, so, ne, io, td, tf, tb, vA, cH, mK, cA, sK) a b := by
  unfold wpX_or
  refine gw_and h (ga_enx ha) (ga_enx hb) hr ?_
  intro r c' z
  refine K (r ^^^ 1) c' ⟨z.1, z.2.1, ga_enx z.2.2.1, fun w hw => ?_⟩
  have q : nb_lit w r = (nb_lit w (a ^^^ 1) && nb_lit w (b ^^^ 1)) := z.2.2.2 w hw
  show nb_lit w (r ^^^ 1) = (nb_lit w a || nb_lit w b)
  rw [ga_lx z.2.2.1, q, ga_lx ha, ga_lx hb]
  cases nb_lit w a <;> cases nb_lit w b <;> rfl
theorem gw_xor {post : Int32 → SX → Prop} {S B : Nat} {a b : Int32} (h : ga_ok c S B) (ha : ga_en c a) (hb : ga_en c b) (hr : S + B + 3 ≤ 355)
    (K : ∀ r c', ga_rz c c' S (B + 3) r (fun w => (nb_lit w a ^^ nb_lit w b)) → post r (sN, sC, sW, pP, pD, pE, c'.1, tc, lV, bU, pL, wH, sE, kd, ox, oy, oz, wd, fo, su, rd, dp, nx, en, hS, wO, nO, nW, c'.2.1, c'.2.2.1, c'.2.2.2.1, c'.2.2.2.2, eo, so, ne, io, td, tf, tb, vA, cH, mK, cA, sK)) : wpX_xor post (sN, sC, sW, pP, pD, pE, c.1, tc, lV, bU, pL, wH, sE, kd, ox, oy, oz, wd, fo, su, rd, dp, nx, en, hS, wO, nO, nW, c.2.1, c.2.2.1, c.2.2.2.1, c.2.2.2.2, eo, so, ne, io, td, tf, tb, vA, cH, mK, cA, sK) a b := by
  unfold wpX_xor
  refine gw_and h ha (ga_enx hb) (by omega) ?_
  intro r1 c1 z1
  refine gw_and z1.2.1 (ga_enx (ga_en_e z1.1 ha)) (ga_en_e z1.1 hb) (by omega) ?_
  intro r2 c2 z2
  refine gw_or z2.2.1 (ga_en_e z2.1 z1.2.2.1) z2.2.2.1 (by omega) ?_
  intro r c3 z3
  refine K r c3 ⟨ga_ex_t z1.1 (ga_ex_t z2.1 z3.1), z3.2.1, z3.2.2.1, fun w hw => ?_⟩
  have w2 := ga_con_e z3.1 hw
  have w1 := ga_con_e z2.1 w2
  have q3 : nb_lit w r = (nb_lit w r1 || nb_lit w r2) := z3.2.2.2 w hw
  have q2 : nb_lit w r2 = (nb_lit w (a ^^^ 1) && nb_lit w b) := z2.2.2.2 w w2
  have q1 : nb_lit w r1 = (nb_lit w a && nb_lit w (b ^^^ 1)) := z1.2.2.2 w w1
  show nb_lit w r = (nb_lit w a ^^ nb_lit w b)
  rw [q3, q2, q1, ga_lx ha, ga_lx hb]
  cases nb_lit w a <;> cases nb_lit w b <;> rfl
theorem gw_pick {post : Int32 → SX → Prop} {S B : Nat} {y a b : Int32} (h : ga_ok c S B) (hy : ga_en c y) (ha : ga_en c a) (hb : ga_en c b) (hr : S + B + 3 ≤ 355)
    (K : ∀ r c', ga_rz c c' S (B + 3) r (fun w => if nb_lit w y = true then nb_lit w a else nb_lit w b) → post r (sN, sC, sW, pP, pD, pE, c'.1, tc, lV, bU, pL, wH, sE, kd, ox, oy, oz, wd, fo, su, rd, dp, nx, en, hS, wO, nO, nW, c'.2.1, c'.2.2.1, c'.2.2.2.1, c'.2.2.2.2, eo, so, ne, io, td, tf, tb, vA, cH, mK, cA, sK)) : wpX_pick post (sN, sC, sW, pP, pD, pE, c.1, tc, lV, bU, pL, wH, sE, kd, ox, oy, oz, wd, fo, su, rd, dp, nx, en, hS, wO, nO, nW, c.2.1, c.2.2.1, c.2.2.2.1, c.2.2.2.2, eo, so, ne, io, td, tf, tb, vA, cH, mK, cA, sK) y a b := by
  unfold wpX_pick
  refine gw_and h hy ha (by omega) ?_
  intro r1 c1 z1
  refine gw_and z1.2.1 (ga_enx (ga_en_e z1.1 hy)) (ga_en_e z1.1 hb) (by omega) ?_
  intro r2 c2 z2
  refine gw_or z2.2.1 (ga_en_e z2.1 z1.2.2.1) z2.2.2.1 (by omega) ?_
  intro r c3 z3
  refine K r c3 ⟨ga_ex_t z1.1 (ga_ex_t z2.1 z3.1), z3.2.1, z3.2.2.1, fun w hw => ?_⟩
  have w2 := ga_con_e z3.1 hw
  have w1 := ga_con_e z2.1 w2
  have q3 : nb_lit w r = (nb_lit w r1 || nb_lit w r2) := z3.2.2.2 w hw
  have q2 : nb_lit w r2 = (nb_lit w (y ^^^ 1) && nb_lit w b) := z2.2.2.2 w w2
  have q1 : nb_lit w r1 = (nb_lit w y && nb_lit w a) := z1.2.2.2 w w1
  show nb_lit w r = if nb_lit w y = true then nb_lit w a else nb_lit w b
  rw [q3, q2, q1, ga_lx hy]
  cases nb_lit w y <;> cases nb_lit w a <;> cases nb_lit w b <;> rfl
theorem gw_end {post : Int32 → Prop} {s i : Nat} (hs : s < 24) (hi : i < 6) (k : post (eo (6 * s + i))) : wpX_end post (sN, sC, sW, pP, pD, pE, c.1, tc, lV, bU, pL, wH, sE, kd, ox, oy, oz, wd, fo, su, rd, dp, nx, en, hS, wO, nO, nW, c.2.1, c.2.2.1, c.2.2.2.1, c.2.2.2.2, eo, so, ne, io, td, tf, tb, vA, cH, mK, cA, sK) (nI s) (nI i) := by
  have e : (6 * nI s) + nI i = nI (6 * s + i) := by
    rw [show 6 * nI s = nI (6 * s) from pk_mul 6 s, nI_add]
  unfold wpX_end
  show vp_in ((6 * nI s) + nI i) 144 ∧ post (eo ((6 * nI s) + nI i).toNatClampNeg)
  rw [e, nI_clamp (by omega)]
  exact ⟨vp_in_nI (by omega) (by omega), k⟩
theorem gw_set {post : SX → Prop} {s i : Nat} {e : Int32} (hs : s < 24) (hi : i < 6) (he : ga_en c e) (k : post (sN, sC, sW, pP, pD, pE, c.1, tc, lV, bU, pL, wH, sE, kd, ox, oy, oz, wd, fo, su, rd, dp, nx, en, hS, wO, nO, nW, c.2.1, c.2.2.1, c.2.2.2.1, c.2.2.2.2, upd eo (6 * s + i) e, so, ne, io, td, tf, tb, vA, cH, mK, cA, sK)) : wpX_setEnd post (sN, sC, sW, pP, pD, pE, c.1, tc, lV, bU, pL, wH, sE, kd, ox, oy, oz, wd, fo, su, rd, dp, nx, en, hS, wO, nO, nW, c.2.1, c.2.2.1, c.2.2.2.1, c.2.2.2.2, eo, so, ne, io, td, tf, tb, vA, cH, mK, cA, sK) (nI s) (nI i) e := by
  have e1 : (6 * nI s) + nI i = nI (6 * s + i) := by
    rw [show 6 * nI s = nI (6 * s) from pk_mul 6 s, nI_add]
  obtain ⟨m, rfl, h1, h2⟩ := he
  unfold wpX_setEnd
  refine ⟨by rw [e1]; exact vp_in_nI (by omega) (by omega), ?_⟩
  intro y ey
  rw [e1, nI_clamp (by omega), nr_s (by omega)] at ey
  rw [ey]
  exact k
theorem gw_newSource {post : Int32 → SX → Prop} {S B : Nat} (h : ga_ok c S B) (hr : S + B + 1 ≤ 355)
    (K : ∀ c', ga_ex c c' → ga_ok c' (S + 1) B → ga_M c' = ga_M c + 1 → c'.2.1 (ga_M c) = -1 → post (nI (ga_M c)) (sN, sC, sW, pP, pD, pE, c'.1, tc, lV, bU, pL, wH, sE, kd, ox, oy, oz, wd, fo, su, rd, dp, nx, en, hS, wO, nO, nW, c'.2.1, c'.2.2.1, c'.2.2.2.1, c'.2.2.2.2, eo, so, ne, io, td, tf, tb, vA, cH, mK, cA, sK)) : wpX_newSource post (sN, sC, sW, pP, pD, pE, c.1, tc, lV, bU, pL, wH, sE, kd, ox, oy, oz, wd, fo, su, rd, dp, nx, en, hS, wO, nO, nW, c.2.1, c.2.2.1, c.2.2.2.1, c.2.2.2.2, eo, so, ne, io, td, tf, tb, vA, cH, mK, cA, sK) := by
  have h' := h
  obtain ⟨h1, h2, h3, h4, h5, h6, h7, h8⟩ := h'
  have hin : vp_in c.1 360 := by rw [h1]; exact vp_in_nI (by omega) (by omega)
  unfold wpX_newSource
  intro nc' enc
  refine ⟨hin, ?_⟩
  intro la' ela
  refine ⟨hin, ?_⟩
  intro lb' elb
  have e1 : nc' = nI (ga_M c + 1) := by rw [enc, h1]; exact nI_1 _
  have e2 : la' = upd c.2.1 (ga_M c) (-1) := by rw [ela, nr_sm]; rfl
  have e3 : lb' = upd c.2.2.1 (ga_M c) (-1) := by rw [elb, nr_sm]; rfl
  obtain ⟨z1, z2, z3⟩ := ga_src h hr
  have k := K _ z1 z2 z3 pk_us
  rw [e1, e2, e3, h1]
  exact k
end
end
section
/-! state bits, stuck bits, sources -/
theorem bx_tb (h i : Nat) : h / 2 ^ i % 2 = (h.testBit i).toNat := by
  rw [Nat.testBit_eq_decide_div_mod_eq]
  rcases Nat.mod_two_eq_zero_or_one (h / 2 ^ i) with z | z <;> rw [z] <;> rfl
theorem bx_sh {h i : Nat} (hh : h < 2 ^ 31) (hi : i < 32) : (nI h >>> (nI i &&& 31)) &&& 1 = nI (h.testBit i).toNat := by
  have h2 : h / 2 ^ i ≤ h := Nat.div_le_self _ _
  rw [pk_shrN hh (nI i &&& 31) i (s_l i hi), pk_andN (by omega) (m := 1) 1 (by decide), Nat.pow_one, bx_tb]
theorem bx_one {k j : Nat} (hk : k < 64) (hj : j < 64) : ((1 : Int64) <<< ((nI k).toInt64 &&& 63)).toBitVec.getLsbD j = decide (j = k) := by
  rw [show (1 : Int64) = lN 1 from rfl, wb_shl 1 hk, wb_tb, BitVec.getLsbD_ofNat, Nat.one_mul, Nat.testBit_two_pow]
  simp only [hj, decide_true, Bool.true_and]
  by_cases e : k = j
  · simp [e]
  · have e2 : ¬ j = k := fun z => e z.symm
    simp [e, e2]
def st_b (A : Nat → Int64) (b : Nat) : Bool := (A (b / 64)).toBitVec.getLsbD (b % 64)
theorem st_set {A : Nat → Int64} {b : Nat} (j : Nat) : st_b (vp_updL A (b / 64) (A (b / 64) ||| ((1 : Int64) <<< ((nI (b % 64)).toInt64 &&& 63)))) j = (decide (j = b) || st_b A j) := by
  unfold st_b
  by_cases e : j / 64 = b / 64
  · rw [e, pk_uLs]
    show ((A (b / 64)).toBitVec ||| ((1 : Int64) <<< ((nI (b % 64)).toInt64 &&& 63)).toBitVec).getLsbD (j % 64) = _
    rw [BitVec.getLsbD_or, bx_one (by omega) (by omega), Bool.or_comm]
    by_cases e2 : j = b
    · simp [e2]
    · have e3 : ¬ j % 64 = b % 64 := by omega
      simp [e2, e3]
  · rw [pk_uLn e]
    have e2 : ¬ j = b := fun z => e (by rw [z])
    simp [e2]
theorem st_clr {A : Nat → Int64} {b : Nat} (j : Nat) : st_b (vp_updL A (b / 64) (A (b / 64) &&& (((1 : Int64) <<< ((nI (b % 64)).toInt64 &&& 63)) ^^^ (-1)))) j = (!decide (j = b) && st_b A j) := by
  unfold st_b
  by_cases e : j / 64 = b / 64
  · rw [e, pk_uLs]
    show ((A (b / 64)).toBitVec &&& (((1 : Int64) <<< ((nI (b % 64)).toInt64 &&& 63)).toBitVec ^^^ (-1 : Int64).toBitVec)).getLsbD (j % 64) = _
    have m1 : (-1 : Int64).toBitVec = BitVec.allOnes 64 := by decide
    rw [BitVec.getLsbD_and, BitVec.getLsbD_xor, bx_one (by omega) (by omega), m1, BitVec.getLsbD_allOnes, Bool.and_comm]
    have hj : j % 64 < 64 := by omega
    by_cases e2 : j = b
    · simp [e2]
      intro z
      omega
    · have e3 : ¬ j % 64 = b % 64 := by omega
      simp [e2, e3, hj]
  · rw [pk_uLn e]
    have e2 : ¬ j = b := fun z => e (by rw [z])
    simp [e2]
theorem st_sh {b : Nat} (hb : b < 2 ^ 31) : nI b >>> ((6 : Int32) &&& 31) = nI (b / 64) := pk_shrN hb _ 6 (by decide)
theorem st_an {b : Nat} (hb : b < 2 ^ 31) : nI b &&& 63 = nI (b % 64) := pk_andN (by omega) 6 (by decide)
theorem st_tst {A : Nat → Int64} {b : Nat} (hb : b < 2 ^ 31) : (((A (nI b >>> ((6 : Int32) &&& 31)).toNatClampNeg).toUInt64 >>> ((nI b &&& 63).toInt64.toUInt64 &&& Int64.toUInt64 63)).toInt64 &&& 1) = 0 ↔ st_b A b = false := by
  rw [st_sh hb, st_an hb, nI_clamp (by omega), wb_cu _ (by omega)]
  exact ts_bit (by omega) (u_tn (by omega))
def sv_b (hS wO : Nat → Int32) (b : Nat) : Bool := if b < 144 then ((hS (b / 6)).toNatClampNeg).testBit (b % 6) else ((wO ((b - 144) / 4)).toNatClampNeg).testBit (b % 4)
def sv_ok (hS wO : Nat → Int32) : Prop := (∀ s, s < 24 → ∃ h, hS s = nI h ∧ h < 64) ∧ (∀ p, p < 4 → ∃ h, wO p = nI h ∧ h < 16)
/-- a state bit under a valuation: its source, or a constant -/
def sg_w (w : Nat → Bool) (so : Nat → Int32) (fv : Nat → Bool) (b : Nat) : Bool := if so b = -1 then fv b else w (so b).toNatClampNeg
def so_ok (c : ga_C) (so : Nat → Int32) : Prop := (∀ b, b < 160 → so b = -1 ∨ ∃ n, so b = nI n ∧ 0 < n ∧ n < ga_M c ∧ c.2.1 n = -1) ∧ ∀ b b', b < 160 → b' < 160 → so b ≠ -1 → so b = so b' → b = b'
theorem so_e {c c' : ga_C} {so : Nat → Int32} (h : ga_ex c c') (g : so_ok c so) : so_ok c' so := by
  refine ⟨fun b hb => ?_, g.2⟩
  rcases g.1 b hb with z | ⟨n, z1, z2, z3, z4⟩
  · exact Or.inl z
  · exact Or.inr ⟨n, z1, z2, by have := h.1; omega, by rw [(h.2 n z3).1]; exact z4⟩
theorem sg_0 {w : Nat → Bool} {so : Nat → Int32} {fv : Nat → Bool} {b : Nat} (h : so b = -1) : sg_w w so fv b = fv b := if_pos h
theorem sg_n {w : Nat → Bool} {so : Nat → Int32} {fv : Nat → Bool} {b n : Nat} (h : so b = nI n) (hn : n < 360) : sg_w w so fv b = w n := by
  unfold sg_w
  rw [if_neg (by rw [h]; exact nr_ne (by omega)), h, nI_clamp (by omega)]
theorem ga_enB {c : ga_C} {S B : Nat} (h : ga_ok c S B) (x : Bool) : ga_en c (nI x.toNat) := by
  cases x
  · exact ga_en0 h
  · exact ga_en1 h
theorem ga_lB {c : ga_C} {w : Nat → Bool} (h : ga_con c w) (x : Bool) : nb_lit w (nI x.toNat) = x := by
  cases x
  · exact ga_l0 h
  · exact ga_l1 h
section
variable {sN sC sW pP pD pE tc lV bU pL wH sE : Int32} {kd ox oy oz wd fo su rd dp nx en hS wO nO nW eo so ne io td tf tb : Nat → Int32} {vA cH mK cA sK : Nat → Int64}
variable {c : ga_C}
theorem gw_isStuck {post : Int32 → Prop} {b : Nat} (hb : b < 160) (k0 : st_b sK b = false → post 0) (k1 : st_b sK b = true → post 1) : wpX_isStuck post (sN, sC, sW, pP, pD, pE, c.1, tc, lV, bU, pL, wH, sE, kd, ox, oy, oz, wd, fo, su, rd, dp, nx, en, hS, wO, nO, nW, c.2.1, c.2.2.1, c.2.2.2.1, c.2.2.2.2, eo, so, ne, io, td, tf, tb, vA, cH, mK, cA, sK) (nI b) := by
  unfold wpX_isStuck
  refine ⟨by rw [st_sh (by omega)]; exact vp_in_nI (by omega) (by omega), ?_⟩
  cases z : st_b sK b
  · exact br_t ((st_tst (by omega)).mpr z) (k0 z)
  · exact br_f (fun y => by rw [(st_tst (by omega)).mp y] at z; exact Bool.noConfusion z) (k1 z)
theorem gw_stateValue {post : Int32 → Prop} {b : Nat} (hb : b < 160) (hv : sv_ok hS wO) (k : post (nI (sv_b hS wO b).toNat)) : wpX_stateValue post (sN, sC, sW, pP, pD, pE, c.1, tc, lV, bU, pL, wH, sE, kd, ox, oy, oz, wd, fo, su, rd, dp, nx, en, hS, wO, nO, nW, c.2.1, c.2.2.1, c.2.2.2.1, c.2.2.2.2, eo, so, ne, io, td, tf, tb, vA, cH, mK, cA, sK) (nI b) := by
  unfold wpX_stateValue
  unfold sv_b at k
  refine pk_lt b 144 (fun h => ?_) (fun h => ?_)
  · rw [if_pos h] at k
    have e1 : nI b / 6 = nI (b / 6) := pk_div (by omega) (by decide) (by decide)
    have e2 : nI b - nI b / 6 * 6 = nI (b % 6) := pk_rem (by omega) (by decide) (by decide)
    obtain ⟨z, ez, hz⟩ := hv.1 (b / 6) (by omega)
    refine ⟨by decide, by rw [e1]; exact vp_in_nI (by omega) (by omega), by decide, ?_⟩
    rw [e2, e1, nI_clamp (by omega), ez, bx_sh (by omega) (by omega)]
    rw [ez, nI_clamp (by omega)] at k
    exact k
  · rw [if_neg (by omega)] at k
    have e0 : nI b - 144 = nI (b - 144) := pk_sub (b := 144) h
    have e1 : nI (b - 144) >>> ((2 : Int32) &&& 31) = nI ((b - 144) / 4) := pk_shrN (by omega) _ 2 (by decide)
    have e2 : nI b &&& 3 = nI (b % 4) := pk_andN (by omega) 2 (by decide)
    obtain ⟨z, ez, hz⟩ := hv.2 ((b - 144) / 4) (by omega)
    refine ⟨by rw [e0, e1]; exact vp_in_nI (by omega) (by omega), ?_⟩
    rw [e0, e1, e2, nI_clamp (by omega), ez, bx_sh (by omega) (by omega)]
    rw [ez, nI_clamp (by omega)] at k
    exact k
theorem gw_stateEnd {post : Int32 → Prop} {b S B : Nat} {fv : Nat → Bool} (hb : b < 160) (h : ga_ok c S B) (hr : S + B ≤ 355) (hso : so_ok c so) (hv : sv_ok hS wO) (hf : so b = -1 → fv b = sv_b hS wO b)
    (K : ∀ e, ga_en c e → (∀ w, ga_con c w → nb_lit w e = sg_w w so fv b) → post e) : wpX_stateEnd post (sN, sC, sW, pP, pD, pE, c.1, tc, lV, bU, pL, wH, sE, kd, ox, oy, oz, wd, fo, su, rd, dp, nx, en, hS, wO, nO, nW, c.2.1, c.2.2.1, c.2.2.2.1, c.2.2.2.2, eo, so, ne, io, td, tf, tb, vA, cH, mK, cA, sK) (nI b) := by
  unfold wpX_stateEnd
  have hin : vp_in (nI b) 160 := vp_in_nI (by omega) (by omega)
  have hc : (nI b).toNatClampNeg = b := nI_clamp (by omega)
  have hM := h.2.2.1
  refine ⟨hin, ?_⟩
  rcases hso.1 b hb with z | ⟨n, z1, z2, z3, z4⟩
  · refine br_t (by rw [hc, z]; decide) (gw_stateValue hb hv (K _ (ga_enB h _) (fun w hw => ?_)))
    rw [ga_lB hw, sg_0 z, hf z]
  · refine br_f (by rw [hc, z1]; exact nI_pos (by omega)) ⟨hin, ?_⟩
    rw [hc, z1, show 2 * nI n = nI (2 * n) from pk_mul 2 n]
    exact K _ ⟨2 * n, rfl, by omega, by omega⟩ (fun w hw => by rw [nb_lit2 w (by omega), sg_n z1 (by omega)])
theorem gw_sourceEnd {post : Int32 → SX → Prop} {b S B : Nat} {fv : Nat → Bool} {e0 : Int32} (hb : b < 160) (h : ga_ok c S B) (hr : S + B + 1 ≤ 355) (hso : so_ok c so) (hb0 : so b = -1) (he : st_b sK b = true → e0 = nI (fv b).toNat)
    (K : ∀ e c' so', ga_ex c c' → ga_ok c' (S + 1) B → so_ok c' so' → (∀ b', b' ≠ b → so' b' = so b') → (so' b = -1 ↔ st_b sK b = true) → ga_en c' e → (∀ w, ga_con c' w → nb_lit w e = sg_w w so' fv b) → post e (sN, sC, sW, pP, pD, pE, c'.1, tc, lV, bU, pL, wH, sE, kd, ox, oy, oz, wd, fo, su, rd, dp, nx, en, hS, wO, nO, nW, c'.2.1, c'.2.2.1, c'.2.2.2.1, c'.2.2.2.2, eo, so', ne, io, td, tf, tb, vA, cH, mK, cA, sK)) : wpX_sourceEnd post (sN, sC, sW, pP, pD, pE, c.1, tc, lV, bU, pL, wH, sE, kd, ox, oy, oz, wd, fo, su, rd, dp, nx, en, hS, wO, nO, nW, c.2.1, c.2.2.1, c.2.2.2.1, c.2.2.2.2, eo, so, ne, io, td, tf, tb, vA, cH, mK, cA, sK) (nI b) e0 := by
  unfold wpX_sourceEnd
  refine gw_isStuck hb (fun z => ?_) (fun z => ?_)
  · refine br_t rfl ?_
    refine gw_newSource h hr ?_
    intro c' x1 x2 x3 x4
    refine ⟨vp_in_nI (by omega) (by omega), ?_⟩
    intro so' eso
    have hM := h.2.2.1
    have h0 := h.2.1
    rw [nI_clamp (by omega), nr_s (by omega)] at eso
    rw [eso, show 2 * nI (ga_M c) = nI (2 * ga_M c) from pk_mul 2 _]
    have eb : upd so b (nI (ga_M c)) b = nI (ga_M c) := pk_us
    refine K (nI (2 * ga_M c)) c' (upd so b (nI (ga_M c))) x1 x2 ⟨fun b' hb' => ?_, fun b1 b2 hb1 hb2 n1 n2 => ?_⟩ (fun b' hb' => pk_un hb') ⟨fun q => ?_, fun q => ?_⟩ ⟨2 * ga_M c, rfl, by omega, by omega⟩ (fun w hw => ?_)
    · by_cases q : b' = b
      · rw [q, eb]
        exact Or.inr ⟨ga_M c, rfl, h0, by omega, x4⟩
      · rw [pk_un q]
        exact (so_e x1 hso).1 b' hb'
    · by_cases q1 : b1 = b
      · by_cases q2 : b2 = b
        · rw [q1, q2]
        · exfalso
          rw [q1, eb, pk_un q2] at n2
          rcases hso.1 b2 hb2 with y | ⟨n, y1, y2, y3, y4⟩
          · rw [y] at n2
            exact nr_ne (by omega) n2
          · rw [y1, nI_eq (by omega) (by omega)] at n2
            omega
      · by_cases q2 : b2 = b
        · exfalso
          rw [q2, eb, pk_un q1] at n2
          rcases hso.1 b1 hb1 with y | ⟨n, y1, y2, y3, y4⟩
          · rw [y] at n2
            exact nr_ne (by omega) n2.symm
          · rw [y1, nI_eq (by omega) (by omega)] at n2
            omega
        · rw [pk_un q1] at n1 n2
          rw [pk_un q2] at n2
          exact hso.2 b1 b2 hb1 hb2 n1 n2
    · rw [eb] at q
      exact absurd q (nr_ne (by omega))
    · rw [z] at q
      exact Bool.noConfusion q
    · rw [nb_lit2 w (by omega), sg_n eb (by omega)]
  · refine br_f (by decide) ?_
    exact K e0 c so (ga_ex_r c) (ga_mono h (Nat.le_succ _) (Nat.le_refl _)) hso (fun _ _ => rfl) ⟨fun _ => z, fun _ => hb0⟩ (by rw [he z]; exact ga_enB h _) (fun w hw => by rw [he z, ga_lB hw, sg_0 hb0])
theorem gw_addBits {post : Int32 → SX → Prop} {s i S B : Nat} {p q r : Int32} (h : ga_ok c S B) (hp : ga_en c p) (hq : ga_en c q) (hc : ga_en c r) (hs : s < 24) (hi : i < 6) (hr : S + B + 9 ≤ 355)
    (K : ∀ t r' c', ga_ex c c' → ga_ok c' S (B + 9) → ga_en c' t → ga_en c' r' → (∀ w, ga_con c' w → nb_lit w t = (nb_lit w p ^^ nb_lit w q ^^ nb_lit w r) ∧ nb_lit w r' = ((nb_lit w p && nb_lit w q) || ((nb_lit w p ^^ nb_lit w q) && nb_lit w r))) → post r' (sN, sC, sW, pP, pD, pE, c'.1, tc, lV, bU, pL, wH, sE, kd, ox, oy, oz, wd, fo, su, rd, dp, nx, en, hS, wO, nO, nW, c'.2.1, c'.2.2.1, c'.2.2.2.1, c'.2.2.2.2, upd eo (6 * s + i) t, so, ne, io, td, tf, tb, vA, cH, mK, cA, sK)) : wpX_addBits post (sN, sC, sW, pP, pD, pE, c.1, tc, lV, bU, pL, wH, sE, kd, ox, oy, oz, wd, fo, su, rd, dp, nx, en, hS, wO, nO, nW, c.2.1, c.2.2.1, c.2.2.2.1, c.2.2.2.2, eo, so, ne, io, td, tf, tb, vA, cH, mK, cA, sK) (nI s) (nI i) p q r := by
  unfold wpX_addBits
  refine gw_xor h hp hq (by omega) ?_
  intro r1 c1 z1
  refine gw_xor z1.2.1 z1.2.2.1 (ga_en_e z1.1 hc) (by omega) ?_
  intro r2 c2 z2
  refine gw_set hs hi z2.2.2.1 ?_
  have x2 := ga_ex_t z1.1 z2.1
  refine gw_and z2.2.1 (ga_en_e x2 hp) (ga_en_e x2 hq) (by omega) ?_
  intro r3 c3 z3
  refine gw_and z3.2.1 (ga_en_e z3.1 (ga_en_e z2.1 z1.2.2.1)) (ga_en_e z3.1 (ga_en_e x2 hc)) (by omega) ?_
  intro r4 c4 z4
  refine gw_or z4.2.1 (ga_en_e z4.1 z3.2.2.1) z4.2.2.1 (by omega) ?_
  intro r5 c5 z5
  have x3 := ga_ex_t z3.1 (ga_ex_t z4.1 z5.1)
  refine K r2 r5 c5 (ga_ex_t x2 x3) z5.2.1 (ga_en_e x3 z2.2.2.1) z5.2.2.1 (fun w hw => ?_)
  have w4 := ga_con_e z5.1 hw
  have w3 := ga_con_e z4.1 w4
  have w2 := ga_con_e z3.1 w3
  have w1 := ga_con_e z2.1 w2
  have q1 : nb_lit w r1 = (nb_lit w p ^^ nb_lit w q) := z1.2.2.2 w w1
  have q2 : nb_lit w r2 = (nb_lit w r1 ^^ nb_lit w r) := z2.2.2.2 w w2
  have q3 : nb_lit w r3 = (nb_lit w p && nb_lit w q) := z3.2.2.2 w w3
  have q4 : nb_lit w r4 = (nb_lit w r1 && nb_lit w r) := z4.2.2.2 w w4
  have q5 : nb_lit w r5 = (nb_lit w r3 || nb_lit w r4) := z5.2.2.2 w hw
  exact ⟨by rw [q2, q1], by rw [q5, q3, q4, q1]⟩
end
end
section
/-! plain laws of the makers: sums, products, comparisons, shifts, counts over bits -/
theorem rp_add {A A0 P Q : Nat → Bool} {i t : Nat} {cr cr' : Bool} (h : nb_n A0 i + cr.toNat * 2 ^ i = nb_n P i + nb_n Q i + t) (h0 : ∀ j, j < i → A j = A0 j)
    (hA : A i = (P i ^^ Q i ^^ cr)) (hc : cr' = ((P i && Q i) || ((P i ^^ Q i) && cr))) : nb_n A (i + 1) + cr'.toNat * 2 ^ (i + 1) = nb_n P (i + 1) + nb_n Q (i + 1) + t := by
  rw [nb_s, nb_s, nb_s, hA, hc, Nat.pow_succ, nb_cg i h0]
  generalize 2 ^ i = x at h ⊢
  generalize nb_n A0 i = y at h ⊢
  generalize nb_n P i = p at h ⊢
  generalize nb_n Q i = q at h ⊢
  cases P i <;> cases Q i <;> cases cr <;> simp at h ⊢ <;> omega
theorem rp_mod {a c x p : Nat} (h : a + c * p = x) (ha : a < p) : a = x % p := by
  rw [← h, Nat.add_mul_mod_self_right, Nat.mod_eq_of_lt ha]
theorem rp_minus {f : Nat → Bool} {A P : Nat → Bool} {W c : Nat} (h : nb_n A W + c * 2 ^ W = nb_n P W + nb_n (fun i => !f i) W + 1) : nb_n A W = (nb_n P W + 2 ^ W - nb_n f W) % 2 ^ W := by
  have e := nb_not f W
  have l := nb_lt f W
  refine rp_mod (c := c) ?_ (nb_lt A W)
  rw [h]
  omega
/-! product -/
theorem rp_row {A A0 A1 P : Nat → Bool} {i r : Nat} {b cr cr' : Bool} (hr : r ≤ i) (h : nb_n A1 i + cr.toNat * 2 ^ i = nb_n A0 i + b.toNat * (2 ^ r * nb_n P (i - r))) (h0 : ∀ j, j < i → A j = A1 j)
    (hA : A i = (A0 i ^^ (P (i - r) && b) ^^ cr)) (hc : cr' = ((A0 i && (P (i - r) && b)) || ((A0 i ^^ (P (i - r) && b)) && cr))) :
    nb_n A (i + 1) + cr'.toNat * 2 ^ (i + 1) = nb_n A0 (i + 1) + b.toNat * (2 ^ r * nb_n P (i + 1 - r)) := by
  have e : i + 1 - r = (i - r) + 1 := by omega
  have e2 : 2 ^ r * 2 ^ (i - r) = 2 ^ i := by rw [← Nat.pow_add]; congr 1; omega
  rw [e, nb_s, nb_s, nb_s, hA, hc, Nat.pow_succ, nb_cg i h0, Nat.mul_add, Nat.mul_left_comm (2 ^ r), e2]
  generalize 2 ^ r * nb_n P (i - r) = p at h ⊢
  generalize nb_n A1 i = y at h ⊢
  generalize nb_n A0 i = q at h ⊢
  generalize 2 ^ i = x at h ⊢
  cases A0 i <;> cases P (i - r) <;> cases b <;> cases cr <;> simp at h ⊢ <;> omega
theorem rp_rowE {A A0 P Q : Nat → Bool} {W r c : Nat} (hr : r ≤ W) (h : nb_n A W + c * 2 ^ W = nb_n A0 W + (Q r).toNat * (2 ^ r * nb_n P (W - r))) (h0 : nb_n A0 W % 2 ^ W = (nb_n P W * nb_n Q r) % 2 ^ W) :
    nb_n A W % 2 ^ W = (nb_n P W * nb_n Q (r + 1)) % 2 ^ W := by
  have e2 : 2 ^ r * 2 ^ (W - r) = 2 ^ W := by rw [← Nat.pow_add]; congr 1; omega
  have e3 : 2 ^ r * nb_n P W = 2 ^ r * nb_n P (W - r) + (nb_n P W / 2 ^ (W - r)) * 2 ^ W := by
    have := Nat.div_add_mod (nb_n P W) (2 ^ (W - r))
    rw [nb_mod P W (W - r) (by omega)] at this
    have t2 : 2 ^ r * nb_n P W = 2 ^ r * (2 ^ (W - r) * (nb_n P W / 2 ^ (W - r)) + nb_n P (W - r)) := by rw [this]
    rw [t2, Nat.mul_add, ← Nat.mul_assoc, e2, Nat.mul_comm (2 ^ W), Nat.add_comm]
  have a1 : nb_n A W % 2 ^ W = (nb_n A0 W + (Q r).toNat * (2 ^ r * nb_n P (W - r))) % 2 ^ W := by rw [← h, Nat.add_mul_mod_self_right]
  have a2 : nb_n P W * nb_n Q (r + 1) = nb_n P W * nb_n Q r + (Q r).toNat * (2 ^ r * nb_n P (W - r)) + (Q r).toNat * (nb_n P W / 2 ^ (W - r)) * 2 ^ W := by
    rw [nb_s, Nat.mul_add, Nat.mul_left_comm, Nat.mul_comm (nb_n P W) (2 ^ r), e3, Nat.mul_add, Nat.mul_assoc (Q r).toNat, Nat.add_assoc]
  rw [a1, a2, Nat.add_mul_mod_self_right, Nat.add_mod, h0, ← Nat.add_mod]
/-! less, same -/
theorem rp_less {P Q : Nat → Bool} {i : Nat} {l l' : Bool} (h : l = decide (nb_n P i < nb_n Q i)) (h' : l' = ((!P i && Q i) || (!(P i ^^ Q i) && l))) : l' = decide (nb_n P (i + 1) < nb_n Q (i + 1)) := by
  have p := nb_lt P i
  have q := nb_lt Q i
  rw [h', h, nb_s, nb_s]
  generalize 2 ^ i = x at p q ⊢
  cases P i <;> cases Q i <;> simp <;> omega
theorem rp_same {P Q : Nat → Bool} {i : Nat} {l l' : Bool} (h : l = decide (nb_n P i = nb_n Q i)) (h' : l' = (l && !(P i ^^ Q i))) : l' = decide (nb_n P (i + 1) = nb_n Q (i + 1)) := by
  have p := nb_lt P i
  have q := nb_lt Q i
  rw [h', h, nb_s, nb_s]
  generalize 2 ^ i = x at p q ⊢
  cases P i <;> cases Q i <;> simp <;> omega
/-! shifts -/
theorem rp_left {A A' : Nat → Bool} {W d : Nat} (h : ∀ j, j < W → A' j = (decide (d ≤ j) && A (j - d))) : nb_n A' W = nb_n A W * 2 ^ d % 2 ^ W := by
  refine nb_eq (Nat.mod_lt _ (Nat.two_pow_pos W)) (fun i hi => ?_)
  rw [h i hi, Nat.testBit_mod_two_pow, Nat.testBit_mul_two_pow, nb_tb]
  have : i - d < W := by omega
  simp [hi, this]
theorem rp_right {A A' : Nat → Bool} {W d : Nat} (h : ∀ j, j < W → A' j = (decide (j + d < W) && A (j + d))) : nb_n A' W = nb_n A W / 2 ^ d := by
  refine nb_eq (Nat.lt_of_le_of_lt (Nat.div_le_self _ _) (nb_lt A W)) (fun i hi => ?_)
  rw [h i hi, Nat.testBit_div_two_pow, nb_tb]
theorem rp_ll {p W a b : Nat} : (p * 2 ^ a % 2 ^ W) * 2 ^ b % 2 ^ W = p * 2 ^ (a + b) % 2 ^ W := by
  rw [Nat.mod_mul_mod, Nat.mul_assoc, ← Nat.pow_add]
theorem rp_rr {p a b : Nat} : p / 2 ^ a / 2 ^ b = p / 2 ^ (a + b) := by
  rw [Nat.div_div_eq_div_mul, ← Nat.pow_add]
/-! counts -/
def pc_n (f : Nat → Bool) : Nat → Nat
  | 0 => 0
  | k + 1 => pc_n f k + (f k).toNat
theorem pc_le (f : Nat → Bool) : ∀ k, pc_n f k ≤ k := by
  intro k
  induction k with
  | zero => exact Nat.le_refl _
  | succ k ih =>
    have h : (f k).toNat ≤ 1 := Bool.toNat_le _
    show pc_n f k + _ ≤ _
    omega
theorem pc_cg {f g : Nat → Bool} : ∀ k, (∀ i, i < k → f i = g i) → pc_n f k = pc_n g k := by
  intro k
  induction k with
  | zero => intro _; rfl
  | succ k ih =>
    intro h
    show pc_n f k + _ = pc_n g k + _
    rw [ih (fun i hi => h i (by omega)), h k (by omega)]
theorem pc_ext (f : Nat → Bool) {k : Nat} : ∀ m, k ≤ m → (∀ i, k ≤ i → i < m → f i = false) → pc_n f m = pc_n f k := by
  intro m
  induction m with
  | zero => intro h _; rw [show k = 0 from by omega]
  | succ m ih =>
    intro h g
    by_cases e : k = m + 1
    · rw [e]
    · show pc_n f m + (f m).toNat = _
      rw [ih (by omega) (fun i h1 h2 => g i h1 (by omega)), g m (by omega) (by omega)]
      rfl
theorem rp_inc {A A0 A1 : Nat → Bool} {i t : Nat} {cr cr' : Bool} (h : nb_n A1 i + cr.toNat * 2 ^ i = nb_n A0 i + t) (h0 : ∀ j, j < i → A j = A1 j) (hA : A i = (A0 i ^^ cr)) (hc : cr' = (A0 i && cr)) :
    nb_n A (i + 1) + cr'.toNat * 2 ^ (i + 1) = nb_n A0 (i + 1) + t := by
  rw [nb_s, nb_s, hA, hc, Nat.pow_succ, nb_cg i h0]
  generalize 2 ^ i = x at h ⊢
  generalize nb_n A1 i = y at h ⊢
  generalize nb_n A0 i = q at h ⊢
  cases A0 i <;> cases cr <;> simp at h ⊢ <;> omega
end
section
/-! makers: sum and product -/
def fr_s (s : Nat) (eo eo' : Nat → Int32) : Prop := ∀ j, (j < 6 * s ∨ 6 * s + 6 ≤ j) → eo' j = eo j
def vw_n (w : Nat → Bool) (eo : Nat → Int32) (s W : Nat) : Nat := nb_n (fun i => nb_lit w (eo (6 * s + i))) W
def mk_ok (c c' : ga_C) (eo eo' : Nat → Int32) (s S B W : Nat) (f : (Nat → Bool) → Nat) : Prop := ga_ex c c' ∧ ga_ok c' S B ∧ fr_s s eo eo' ∧ (∀ i, i < W → ga_en c' (eo' (6 * s + i))) ∧ ∀ w, ga_con c' w → vw_n w eo' s W = f w
theorem vw_2 {w : Nat → Bool} {eo : Nat → Int32} {t : Nat} : vw_n w eo t 2 = (nb_lit w (eo (6 * t + 0))).toNat + 2 * (nb_lit w (eo (6 * t + 1))).toNat := by
  show 0 + (nb_lit w (eo (6 * t + 0))).toNat * 2 ^ 0 + (nb_lit w (eo (6 * t + 1))).toNat * 2 ^ 1 = _
  omega
theorem fr_r (s : Nat) (eo : Nat → Int32) : fr_s s eo eo := fun _ _ => rfl
theorem fr_u {s i : Nat} {eo0 eo : Nat → Int32} {e : Int32} (h : fr_s s eo0 eo) (hi : i < 6) : fr_s s eo0 (upd eo (6 * s + i) e) := fun j hj => (pk_un (by omega)).trans (h j hj)
theorem fr_x {s x i : Nat} {eo0 eo : Nat → Int32} (h : fr_s s eo0 eo) (hx : x < s) (hi : i < 6) : eo (6 * x + i) = eo0 (6 * x + i) := h _ (Or.inl (by omega))
theorem up_j {s i j : Nat} {eo : Nat → Int32} {e : Int32} (h : j ≠ i) : upd eo (6 * s + i) e (6 * s + j) = eo (6 * s + j) := pk_un (by omega)
theorem fr_en {c c' : ga_C} {eo : Nat → Int32} {e : Int32} {s i : Nat} (hx : ga_ex c c') (h : ∀ j, j < i → ga_en c (eo (6 * s + j))) (he : ga_en c' e) : ∀ j, j < i + 1 → ga_en c' (upd eo (6 * s + i) e (6 * s + j)) := by
  intro j hj
  by_cases q : j = i
  · rw [q, pk_us]; exact he
  · rw [up_j q]; exact ga_en_e hx (h j (by omega))
theorem fr_enW {c c' : ga_C} {eo : Nat → Int32} {e : Int32} {s i W : Nat} (hx : ga_ex c c') (h : ∀ j, j < W → ga_en c (eo (6 * s + j))) (he : ga_en c' e) : ∀ j, j < W → ga_en c' (upd eo (6 * s + i) e (6 * s + j)) := by
  intro j hj
  by_cases q : j = i
  · rw [q, pk_us]; exact he
  · rw [up_j q]; exact ga_en_e hx (h j hj)
section
variable {sN sC sW pP pD pE tc lV bU pL wH sE : Int32} {kd ox oy oz wd fo su rd dp nx en hS wO nO nW so ne io td tf tb : Nat → Int32} {vA cH mK cA sK : Nat → Int64}
theorem gm_sum7 {post : SX → Prop} {s x y W tN S B : Nat} {t : Int32} {c0 : ga_C} {eo0 : Nat → Int32} (hs : s < 24) (hx : x < s) (hy : y < s) (hW : W ≤ 6) (hwd : wd s = nI W)
    (hP : ∀ i, i < W → ga_en c0 (eo0 (6 * x + i))) (hQ : ∀ i, i < W → ga_en c0 (eo0 (6 * y + i) ^^^ t)) (hr : S + B + 9 * W ≤ 355)
    (K : ∀ c' eo', ga_ex c0 c' → ga_ok c' S (B + 9 * W) → fr_s s eo0 eo' → (∀ i, i < W → ga_en c' (eo' (6 * s + i))) → (∀ w, ga_con c' w → ∃ cb : Nat, vw_n w eo' s W + cb * 2 ^ W = vw_n w eo0 x W + nb_n (fun i => nb_lit w (eo0 (6 * y + i) ^^^ t)) W + tN) → post (sN, sC, sW, pP, pD, pE, c'.1, tc, lV, bU, pL, wH, sE, kd, ox, oy, oz, wd, fo, su, rd, dp, nx, en, hS, wO, nO, nW, c'.2.1, c'.2.2.1, c'.2.2.2.1, c'.2.2.2.2, eo', so, ne, io, td, tf, tb, vA, cH, mK, cA, sK)) :
    ∀ (n i : Nat) (c : ga_C) (eo : Nat → Int32) (cr : Int32), W < n + i → i ≤ W → ga_ex c0 c → ga_ok c S (B + 9 * i) → fr_s s eo0 eo → (∀ j, j < i → ga_en c (eo (6 * s + j))) → ga_en c cr →
      (∀ w, ga_con c w → nb_n (fun j => nb_lit w (eo (6 * s + j))) i + (nb_lit w cr).toNat * 2 ^ i = nb_n (fun j => nb_lit w (eo0 (6 * x + j))) i + nb_n (fun j => nb_lit w (eo0 (6 * y + j) ^^^ t)) i + tN) →
      wX_makeSum_7 post (nI s) (nI x) (nI y) t n cr (nI i) sN sC sW pP pD pE c.1 tc lV bU pL wH sE kd ox oy oz wd fo su rd dp nx en hS wO nO nW c.2.1 c.2.2.1 c.2.2.2.1 c.2.2.2.2 eo so ne io td tf tb vA cH mK cA sK := by
  have hsin : vp_in (nI s) 24 := vp_in_nI hs (by omega)
  have hwd' : wd (nI s).toNatClampNeg = nI W := by rw [nI_clamp (by omega)]; exact hwd
  intro n
  induction n with
  | zero => intro i c eo cr h1 h2; omega
  | succ n ih =>
    intro i c eo cr h1 h2 hx0 hok hfr hen hcr hI
    unfold wX_makeSum_7
    refine ⟨hsin, pk_le W i (fun hle => ?_) (fun hlt => ?_) hwd'⟩
    · have e : i = W := by omega
      subst e
      exact K c eo hx0 hok hfr hen (fun w hw => ⟨_, hI w hw⟩)
    · have ex := fr_x hfr hx (i := i) (by omega)
      have ey := fr_x hfr hy (i := i) (by omega)
      refine gw_end (by omega) (by omega) ?_
      refine gw_end (by omega) (by omega) ?_
      intro q eq
      rw [ex]
      rw [ey] at eq
      subst eq
      refine gw_addBits hok (ga_en_e hx0 (hP i hlt)) (ga_en_e hx0 (hQ i hlt)) hcr hs (by omega) (by omega) ?_
      intro t' r' c' x1 x2 x3 x4 x5
      intro y' ey'
      have e2 := ey'.trans (nI_1 i)
      subst e2
      refine ih (i + 1) c' (upd eo (6 * s + i) t') r' (by omega) (by omega) (ga_ex_t hx0 x1) (ga_mono x2 (Nat.le_refl _) (by omega)) (fr_u hfr (by omega)) (fr_en x1 hen x3) x4 (fun w hw => ?_)
      refine rp_add (hI w (ga_con_e x1 hw)) (fun j hj => ?_) ?_ (x5 w hw).2
      · show nb_lit w (upd eo (6 * s + i) t' (6 * s + j)) = _
        rw [up_j (by omega)]
      · show nb_lit w (upd eo (6 * s + i) t' (6 * s + i)) = _
        rw [pk_us]
        exact (x5 w hw).1
variable {c : ga_C} {eo : Nat → Int32}
theorem gm_plus {post : SX → Prop} {s x y W S B : Nat} (hs : s < 24) (hx : x < s) (hy : y < s) (hW : W ≤ 6) (hwd : wd s = nI W) (h : ga_ok c S B)
    (hP : ∀ i, i < W → ga_en c (eo (6 * x + i))) (hQ : ∀ i, i < W → ga_en c (eo (6 * y + i))) (hr : S + B + 9 * W ≤ 355)
    (K : ∀ c' eo', mk_ok c c' eo eo' s S (B + 9 * W) W (fun w => (vw_n w eo x W + vw_n w eo y W) % 2 ^ W) → post (sN, sC, sW, pP, pD, pE, c'.1, tc, lV, bU, pL, wH, sE, kd, ox, oy, oz, wd, fo, su, rd, dp, nx, en, hS, wO, nO, nW, c'.2.1, c'.2.2.1, c'.2.2.2.1, c'.2.2.2.2, eo', so, ne, io, td, tf, tb, vA, cH, mK, cA, sK)) : wpX_makeSum post (sN, sC, sW, pP, pD, pE, c.1, tc, lV, bU, pL, wH, sE, kd, ox, oy, oz, wd, fo, su, rd, dp, nx, en, hS, wO, nO, nW, c.2.1, c.2.2.1, c.2.2.2.1, c.2.2.2.2, eo, so, ne, io, td, tf, tb, vA, cH, mK, cA, sK) (nI s) (nI x) (nI y) 0 := by
  unfold wpX_makeSum
  refine ⟨W + 1, gm_sum7 (t := 0) (tN := 0) hs hx hy hW hwd hP (fun i hi => by rw [Int32.xor_zero]; exact hQ i hi) hr ?_ (W + 1) 0 c eo 0 (by omega) (by omega) (ga_ex_r c) h (fr_r s eo) (fun j hj => absurd hj (by omega)) (ga_en0 h) (fun w hw => by rw [ga_l0 hw]; rfl)⟩
  intro c' eo' x1 x2 x3 x4 x5
  refine K c' eo' ⟨x1, x2, x3, x4, fun w hw => ?_⟩
  obtain ⟨cb, hb⟩ := x5 w hw
  refine rp_mod (c := cb) ?_ (nb_lt _ W)
  rw [hb, Nat.add_zero]
  congr 1
  exact nb_cg W (fun i hi => by rw [Int32.xor_zero])
theorem gm_minus {post : SX → Prop} {s x y W S B : Nat} (hs : s < 24) (hx : x < s) (hy : y < s) (hW : W ≤ 6) (hwd : wd s = nI W) (h : ga_ok c S B)
    (hP : ∀ i, i < W → ga_en c (eo (6 * x + i))) (hQ : ∀ i, i < W → ga_en c (eo (6 * y + i))) (hr : S + B + 9 * W ≤ 355)
    (K : ∀ c' eo', mk_ok c c' eo eo' s S (B + 9 * W) W (fun w => (vw_n w eo x W + 2 ^ W - vw_n w eo y W) % 2 ^ W) → post (sN, sC, sW, pP, pD, pE, c'.1, tc, lV, bU, pL, wH, sE, kd, ox, oy, oz, wd, fo, su, rd, dp, nx, en, hS, wO, nO, nW, c'.2.1, c'.2.2.1, c'.2.2.2.1, c'.2.2.2.2, eo', so, ne, io, td, tf, tb, vA, cH, mK, cA, sK)) : wpX_makeSum post (sN, sC, sW, pP, pD, pE, c.1, tc, lV, bU, pL, wH, sE, kd, ox, oy, oz, wd, fo, su, rd, dp, nx, en, hS, wO, nO, nW, c.2.1, c.2.2.1, c.2.2.2.1, c.2.2.2.2, eo, so, ne, io, td, tf, tb, vA, cH, mK, cA, sK) (nI s) (nI x) (nI y) 1 := by
  unfold wpX_makeSum
  refine ⟨W + 1, gm_sum7 (t := 1) (tN := 1) hs hx hy hW hwd hP (fun i hi => ga_enx (hQ i hi)) hr ?_ (W + 1) 0 c eo 1 (by omega) (by omega) (ga_ex_r c) h (fr_r s eo) (fun j hj => absurd hj (by omega)) (ga_en1 h) (fun w hw => by rw [ga_l1 hw]; rfl)⟩
  intro c' eo' x1 x2 x3 x4 x5
  refine K c' eo' ⟨x1, x2, x3, x4, fun w hw => ?_⟩
  obtain ⟨cb, hb⟩ := x5 w hw
  refine rp_minus (c := cb) ?_
  have e : nb_n (fun i => nb_lit w (eo (6 * y + i) ^^^ 1)) W = nb_n (fun i => !nb_lit w (eo (6 * y + i))) W := nb_cg W (fun i hi => ga_lx (hQ i hi) w)
  rw [e] at hb
  exact hb
end
section
variable {sN sC sW pP pD pE tc lV bU pL wH sE : Int32} {kd ox oy oz wd fo su rd dp nx en hS wO nO nW so ne io td tf tb : Nat → Int32} {vA cH mK cA sK : Nat → Int64}
/-- one row of the product -/
theorem gm_row {post : SX → Prop} {J : Int32 → Int32 → Int32 → Int32 → Int32 → Int32 → Int32 → Int32 → Int32 → Int32 → Int32 → Int32 → Int32 → Int32 → (Nat → Int32) → (Nat → Int32) → (Nat → Int32) → (Nat → Int32) → (Nat → Int32) → (Nat → Int32) → (Nat → Int32) → (Nat → Int32) → (Nat → Int32) → (Nat → Int32) → (Nat → Int32) → (Nat → Int32) → (Nat → Int32) → (Nat → Int32) → (Nat → Int32) → (Nat → Int32) → (Nat → Int32) → (Nat → Int32) → (Nat → Int32) → (Nat → Int32) → (Nat → Int32) → (Nat → Int32) → (Nat → Int32) → (Nat → Int32) → (Nat → Int32) → (Nat → Int32) → (Nat → Int64) → (Nat → Int64) → (Nat → Int64) → (Nat → Int64) → (Nat → Int64) → Prop}
    {s x y W r S B : Nat} {c0 : ga_C} {eo0 : Nat → Int32} (hs : s < 24) (hx : x < s) (hy : y < s) (hW : W ≤ 6) (hrW : r < W)
    (hP : ∀ i, i < W → ga_en c0 (eo0 (6 * x + i))) (hQ : ∀ i, i < W → ga_en c0 (eo0 (6 * y + i))) (hA : ∀ i, i < W → ga_en c0 (eo0 (6 * s + i))) (hr : S + B + 10 * W ≤ 355)
    (K : ∀ c' eo', ga_ex c0 c' → ga_ok c' S (B + 10 * W) → fr_s s eo0 eo' → (∀ i, i < W → ga_en c' (eo' (6 * s + i))) → (∀ w, ga_con c' w → ∃ cb : Nat, vw_n w eo' s W + cb * 2 ^ W = vw_n w eo0 s W + (nb_lit w (eo0 (6 * y + r))).toNat * (2 ^ r * vw_n w eo0 x (W - r))) → J (nI (r + 1)) sN sC sW pP pD pE c'.1 tc lV bU pL wH sE kd ox oy oz wd fo su rd dp nx en hS wO nO nW c'.2.1 c'.2.2.1 c'.2.2.2.1 c'.2.2.2.2 eo' so ne io td tf tb vA cH mK cA sK) :
    ∀ (n i : Nat) (c : ga_C) (eo : Nat → Int32) (cr : Int32), W < n + i → r ≤ i → i ≤ W → ga_ex c0 c → ga_ok c S (B + 10 * i) → fr_s s eo0 eo → (∀ j, j < W → ga_en c (eo (6 * s + j))) → (∀ j, i ≤ j → eo (6 * s + j) = eo0 (6 * s + j)) → ga_en c cr →
      (∀ w, ga_con c w → nb_n (fun j => nb_lit w (eo (6 * s + j))) i + (nb_lit w cr).toNat * 2 ^ i = nb_n (fun j => nb_lit w (eo0 (6 * s + j))) i + (nb_lit w (eo0 (6 * y + r))).toNat * (2 ^ r * nb_n (fun j => nb_lit w (eo0 (6 * x + j))) (i - r))) →
      wX_makeProduct_77 post J (nI s) (nI x) (nI y) (nI W) (nI r) n cr (nI i) sN sC sW pP pD pE c.1 tc lV bU pL wH sE kd ox oy oz wd fo su rd dp nx en hS wO nO nW c.2.1 c.2.2.1 c.2.2.2.1 c.2.2.2.2 eo so ne io td tf tb vA cH mK cA sK := by
  intro n
  induction n with
  | zero => intro i c eo cr h1 h2 h3; omega
  | succ n ih =>
    intro i c eo cr h1 hri h2 hx0 hok hfr hen hun hcr hI
    unfold wX_makeProduct_77
    refine pk_le W i (fun hle => ?_) (fun hlt => ?_)
    · have e : i = W := by omega
      subst e
      intro y' ey'
      have e2 := ey'.trans (nI_1 r)
      subst e2
      exact K c eo hx0 hok hfr hen (fun w hw => ⟨_, hI w hw⟩)
    · have ex := fr_x hfr hx (i := i - r) (by omega)
      have ey := fr_x hfr hy (i := r) (by omega)
      have es := hun i (Nat.le_refl _)
      rw [pk_sub hri]
      refine gw_end (by omega) (by omega) ?_
      refine gw_end (by omega) (by omega) ?_
      refine gw_end (by omega) (by omega) ?_
      rw [ex, ey, es]
      refine gw_and hok (ga_en_e hx0 (hP (i - r) (by omega))) (ga_en_e hx0 (hQ r (by omega))) (by omega) ?_
      intro q c1 z1
      refine gw_addBits z1.2.1 (ga_en_e (ga_ex_t hx0 z1.1) (hA i hlt)) z1.2.2.1 (ga_en_e z1.1 hcr) hs (by omega) (by omega) ?_
      intro t' r' c' x1 x2 x3 x4 x5
      intro y' ey'
      have e2 := ey'.trans (nI_1 i)
      subst e2
      have x1' := ga_ex_t z1.1 x1
      refine ih (i + 1) c' (upd eo (6 * s + i) t') r' (by omega) (by omega) (by omega) (ga_ex_t hx0 x1') (ga_mono x2 (Nat.le_refl _) (by omega)) (fr_u hfr (by omega)) (fr_enW x1' hen x3) (fun j hj => by rw [up_j (by omega)]; exact hun j (by omega)) x4 (fun w hw => ?_)
      have w1 := ga_con_e x1 hw
      have q1 : nb_lit w q = (nb_lit w (eo0 (6 * x + (i - r))) && nb_lit w (eo0 (6 * y + r))) := z1.2.2.2 w w1
      have q2 := x5 w hw
      rw [q1] at q2
      refine rp_row hri (hI w (ga_con_e x1' hw)) (fun j hj => ?_) ?_ q2.2
      · show nb_lit w (upd eo (6 * s + i) t' (6 * s + j)) = _
        rw [up_j (by omega)]
      · show nb_lit w (upd eo (6 * s + i) t' (6 * s + i)) = _
        rw [pk_us]
        exact q2.1
theorem gm_rows {post : SX → Prop} {s x y W S B : Nat} {c0 : ga_C} {eo0 : Nat → Int32} (hs : s < 24) (hx : x < s) (hy : y < s) (hW : W ≤ 6)
    (hP : ∀ i, i < W → ga_en c0 (eo0 (6 * x + i))) (hQ : ∀ i, i < W → ga_en c0 (eo0 (6 * y + i))) (hr : S + B + 10 * W * W ≤ 355)
    (K : ∀ c' eo', mk_ok c0 c' eo0 eo' s S (B + 10 * W * W) W (fun w => (vw_n w eo0 x W * vw_n w eo0 y W) % 2 ^ W) → post (sN, sC, sW, pP, pD, pE, c'.1, tc, lV, bU, pL, wH, sE, kd, ox, oy, oz, wd, fo, su, rd, dp, nx, en, hS, wO, nO, nW, c'.2.1, c'.2.2.1, c'.2.2.2.1, c'.2.2.2.2, eo', so, ne, io, td, tf, tb, vA, cH, mK, cA, sK)) :
    ∀ (n r : Nat) (c : ga_C) (eo : Nat → Int32), W < n + r → r ≤ W → ga_ex c0 c → ga_ok c S (B + 10 * W * r) → fr_s s eo0 eo → (∀ j, j < W → ga_en c (eo (6 * s + j))) →
      (∀ w, ga_con c w → vw_n w eo s W % 2 ^ W = (vw_n w eo0 x W * nb_n (fun j => nb_lit w (eo0 (6 * y + j))) r) % 2 ^ W) →
      wX_makeProduct_63 post (nI s) (nI x) (nI y) (nI W) n (nI r) sN sC sW pP pD pE c.1 tc lV bU pL wH sE kd ox oy oz wd fo su rd dp nx en hS wO nO nW c.2.1 c.2.2.1 c.2.2.2.1 c.2.2.2.2 eo so ne io td tf tb vA cH mK cA sK := by
  intro n
  induction n with
  | zero => intro r c eo h1 h2; omega
  | succ n ih =>
    intro r c eo h1 h2 hx0 hok hfr hen hI
    unfold wX_makeProduct_63
    refine pk_le W r (fun hle => ?_) (fun hlt => ?_)
    · have e : r = W := by omega
      subst e
      refine K c eo ⟨hx0, hok, hfr, hen, fun w hw => ?_⟩
      have q := hI w hw
      rw [Nat.mod_eq_of_lt (show vw_n w eo s r < 2 ^ r from nb_lt _ _)] at q
      exact q
    · have bnd : 10 * W * (r + 1) ≤ 10 * W * W := Nat.mul_le_mul_left _ hlt
      have bnd2 : 10 * W * (r + 1) = 10 * W * r + 10 * W := Nat.mul_succ _ _
      refine ⟨W + 1 - r, gm_row (c0 := c) (eo0 := eo) (S := S) (B := B + 10 * W * r - 10 * r) hs hx hy hW hlt (fun i hi => ?_) (fun i hi => ?_) hen ?_ ?_ (W + 1 - r) r c eo 0 (by omega) (Nat.le_refl _) (by omega) (ga_ex_r c) ?_ (fr_r s eo) hen (fun _ _ => rfl) (ga_en0 hok) (fun w hw => ?_)⟩
      · rw [fr_x hfr hx (by omega)]; exact ga_en_e hx0 (hP i hi)
      · rw [fr_x hfr hy (by omega)]; exact ga_en_e hx0 (hQ i hi)
      · omega
      · intro c' eo' x1 x2 x3 x4 x5
        refine ih (r + 1) c' eo' (by omega) (by omega) (ga_ex_t hx0 x1) (ga_mono x2 (Nat.le_refl _) (by omega)) (fun j hj => (x3 j hj).trans (hfr j hj)) x4 (fun w hw => ?_)
        obtain ⟨cb, hb⟩ := x5 w hw
        have w0 := ga_con_e x1 hw
        have eP : ∀ k, k ≤ W → vw_n w eo x k = vw_n w eo0 x k := fun k hk => nb_cg k (fun i hi => by rw [fr_x hfr hx (by omega)])
        rw [eP _ (by omega), fr_x hfr hy (by omega)] at hb
        exact rp_rowE (P := fun j => nb_lit w (eo0 (6 * x + j))) (Q := fun j => nb_lit w (eo0 (6 * y + j))) (by omega) hb (hI w w0)
      · have : 10 * r ≤ 10 * W * r := Nat.mul_le_mul_right r (by omega)
        exact ga_mono hok (Nat.le_refl _) (by omega)
      · rw [ga_l0 hw, Nat.sub_self]
        show _ + 0 * 2 ^ r = _ + _ * (2 ^ r * 0)
        simp
theorem gm_prod11 {post : SX → Prop} {s x y W S B : Nat} {c0 : ga_C} {eo0 : Nat → Int32} (hs : s < 24) (hx : x < s) (hy : y < s) (hW : W ≤ 6) (hW0 : 0 < W)
    (hP : ∀ i, i < W → ga_en c0 (eo0 (6 * x + i))) (hQ : ∀ i, i < W → ga_en c0 (eo0 (6 * y + i))) (hr : S + B + 10 * W * W ≤ 355)
    (K : ∀ c' eo', mk_ok c0 c' eo0 eo' s S (B + 10 * W * W) W (fun w => (vw_n w eo0 x W * vw_n w eo0 y W) % 2 ^ W) → post (sN, sC, sW, pP, pD, pE, c'.1, tc, lV, bU, pL, wH, sE, kd, ox, oy, oz, wd, fo, su, rd, dp, nx, en, hS, wO, nO, nW, c'.2.1, c'.2.2.1, c'.2.2.2.1, c'.2.2.2.2, eo', so, ne, io, td, tf, tb, vA, cH, mK, cA, sK)) :
    ∀ (n i : Nat) (c : ga_C) (eo : Nat → Int32), W < n + i → i ≤ W → ga_ex c0 c → ga_ok c S (B + i) → fr_s s eo0 eo → (∀ j, j < i → ga_en c (eo (6 * s + j))) →
      (∀ w, ga_con c w → ∀ j, j < i → nb_lit w (eo (6 * s + j)) = (nb_lit w (eo0 (6 * x + j)) && nb_lit w (eo0 (6 * y + 0)))) →
      wX_makeProduct_11 post (nI s) (nI x) (nI y) (nI W) n (nI i) sN sC sW pP pD pE c.1 tc lV bU pL wH sE kd ox oy oz wd fo su rd dp nx en hS wO nO nW c.2.1 c.2.2.1 c.2.2.2.1 c.2.2.2.2 eo so ne io td tf tb vA cH mK cA sK := by
  have bnd : 10 * W * 1 ≤ 10 * W * W := Nat.mul_le_mul_left _ hW0
  intro n
  induction n with
  | zero => intro i c eo h1 h2; omega
  | succ n ih =>
    intro i c eo h1 h2 hx0 hok hfr hen hI
    unfold wX_makeProduct_11
    refine pk_le W i (fun hle => ?_) (fun hlt => ?_)
    · have e : i = W := by omega
      subst e
      refine ⟨i + 1, gm_rows hs hx hy hW hP hQ hr K (i + 1) 1 c eo (by omega) hW0 hx0 (ga_mono hok (Nat.le_refl _) (by omega)) hfr hen (fun w hw => ?_)⟩
      have q := hI w hw
      have e1 : nb_n (fun j => nb_lit w (eo0 (6 * y + j))) 1 = (nb_lit w (eo0 (6 * y + 0))).toNat := by
        show 0 + _ * 2 ^ 0 = _
        simp
      rw [e1]
      congr 1
      have e2 : vw_n w eo s i = nb_n (fun j => nb_lit w (eo0 (6 * x + j)) && nb_lit w (eo0 (6 * y + 0))) i := nb_cg i q
      rw [e2]
      cases nb_lit w (eo0 (6 * y + 0))
      · show _ = _ * 0
        rw [Nat.mul_zero]
        exact nb_eq (Nat.two_pow_pos i) (fun j hj => by simp)
      · show _ = _ * 1
        rw [Nat.mul_one]
        exact nb_cg i (fun j hj => by simp)
    · have ex := fr_x hfr hx (i := i) (by omega)
      have ey := fr_x hfr hy (i := 0) (by omega)
      refine gw_end (by omega) (by omega) ?_
      refine gw_end (i := 0) (by omega) (by omega) ?_
      rw [ex, ey]
      refine gw_and hok (ga_en_e hx0 (hP i hlt)) (ga_en_e hx0 (hQ 0 hW0)) (by omega) ?_
      intro q c1 z1
      refine gw_set hs (by omega) z1.2.2.1 ?_
      intro y' ey'
      have e2 := ey'.trans (nI_1 i)
      subst e2
      refine ih (i + 1) c1 (upd eo (6 * s + i) q) (by omega) (by omega) (ga_ex_t hx0 z1.1) z1.2.1 (fr_u hfr (by omega)) (fr_en z1.1 hen z1.2.2.1) (fun w hw j hj => ?_)
      by_cases e : j = i
      · subst e
        rw [pk_us]
        exact z1.2.2.2 w hw
      · rw [up_j e]
        exact hI w (ga_con_e z1.1 hw) j (by omega)
variable {c : ga_C} {eo : Nat → Int32}
theorem gm_times {post : SX → Prop} {s x y W S B : Nat} (hs : s < 24) (hx : x < s) (hy : y < s) (hW : W ≤ 6) (hW0 : 0 < W) (hwd : wd s = nI W) (h : ga_ok c S B)
    (hP : ∀ i, i < W → ga_en c (eo (6 * x + i))) (hQ : ∀ i, i < W → ga_en c (eo (6 * y + i))) (hr : S + B + 10 * W * W ≤ 355)
    (K : ∀ c' eo', mk_ok c c' eo eo' s S (B + 10 * W * W) W (fun w => (vw_n w eo x W * vw_n w eo y W) % 2 ^ W) → post (sN, sC, sW, pP, pD, pE, c'.1, tc, lV, bU, pL, wH, sE, kd, ox, oy, oz, wd, fo, su, rd, dp, nx, en, hS, wO, nO, nW, c'.2.1, c'.2.2.1, c'.2.2.2.1, c'.2.2.2.2, eo', so, ne, io, td, tf, tb, vA, cH, mK, cA, sK)) : wpX_makeProduct post (sN, sC, sW, pP, pD, pE, c.1, tc, lV, bU, pL, wH, sE, kd, ox, oy, oz, wd, fo, su, rd, dp, nx, en, hS, wO, nO, nW, c.2.1, c.2.2.1, c.2.2.2.1, c.2.2.2.2, eo, so, ne, io, td, tf, tb, vA, cH, mK, cA, sK) (nI s) (nI x) (nI y) := by
  unfold wpX_makeProduct
  refine ⟨vp_in_nI hs (by omega), ?_⟩
  intro y' ey'
  rw [nI_clamp (by omega), hwd] at ey'
  subst ey'
  exact ⟨W + 1, gm_prod11 hs hx hy hW hW0 hP hQ hr K (W + 1) 0 c eo (by omega) (by omega) (ga_ex_r c) h (fr_r s eo) (fun j hj => absurd hj (by omega)) (fun w hw j hj => absurd hj (by omega))⟩
end
end
section
/-! makers: less, same, count, read -/
section
variable {sN sC sW pP pD pE tc lV bU pL wH sE : Int32} {kd ox oy oz wd fo su rd dp nx en hS wO nO nW so ne io td tf tb : Nat → Int32} {vA cH mK cA sK : Nat → Int64}
theorem gm_less6 {post : SX → Prop} {s x y W S B : Nat} {c0 : ga_C} {eo0 : Nat → Int32} (hs : s < 24) (hx : x < s) (hy : y < s) (hW : W ≤ 6) (hwd : wd x = nI W)
    (hP : ∀ i, i < W → ga_en c0 (eo0 (6 * x + i))) (hQ : ∀ i, i < W → ga_en c0 (eo0 (6 * y + i))) (hr : S + B + 8 * W ≤ 355)
    (K : ∀ c' eo', mk_ok c0 c' eo0 eo' s S (B + 8 * W) 1 (fun w => if vw_n w eo0 x W < vw_n w eo0 y W then 1 else 0) → post (sN, sC, sW, pP, pD, pE, c'.1, tc, lV, bU, pL, wH, sE, kd, ox, oy, oz, wd, fo, su, rd, dp, nx, en, hS, wO, nO, nW, c'.2.1, c'.2.2.1, c'.2.2.2.1, c'.2.2.2.2, eo', so, ne, io, td, tf, tb, vA, cH, mK, cA, sK)) :
    ∀ (n i : Nat) (c : ga_C) (l : Int32), W < n + i → i ≤ W → ga_ex c0 c → ga_ok c S (B + 8 * i) → ga_en c l →
      (∀ w, ga_con c w → nb_lit w l = decide (nb_n (fun j => nb_lit w (eo0 (6 * x + j))) i < nb_n (fun j => nb_lit w (eo0 (6 * y + j))) i)) →
      wX_makeLess_6 post (nI s) (nI x) (nI y) n l (nI i) sN sC sW pP pD pE c.1 tc lV bU pL wH sE kd ox oy oz wd fo su rd dp nx en hS wO nO nW c.2.1 c.2.2.1 c.2.2.2.1 c.2.2.2.2 eo0 so ne io td tf tb vA cH mK cA sK := by
  have hwd' : wd (nI x).toNatClampNeg = nI W := by rw [nI_clamp (by omega)]; exact hwd
  intro n
  induction n with
  | zero => intro i c l h1 h2; omega
  | succ n ih =>
    intro i c l h1 h2 hx0 hok hl hI
    unfold wX_makeLess_6
    refine ⟨vp_in_nI (by omega) (by omega), pk_le W i (fun hle => ?_) (fun hlt => ?_) hwd'⟩
    · have e : i = W := by omega
      subst e
      refine gw_set (i := 0) hs (by omega) hl ?_
      refine K c (upd eo0 (6 * s + 0) l) ⟨hx0, hok, fr_u (fr_r s eo0) (by omega), fun j hj => ?_, fun w hw => ?_⟩
      · rw [show j = 0 from by omega, pk_us]
        exact hl
      · have e1 : vw_n w (upd eo0 (6 * s + 0) l) s 1 = (nb_lit w l).toNat := by
          show 0 + (nb_lit w (upd eo0 (6 * s + 0) l (6 * s + 0))).toNat * 2 ^ 0 = _
          rw [pk_us]
          simp
        rw [e1, hI w hw]
        show (decide (vw_n w eo0 x i < vw_n w eo0 y i)).toNat = _
        by_cases q : vw_n w eo0 x i < vw_n w eo0 y i
        · simp [q]
        · simp [q]
    · have hp := ga_en_e hx0 (hP i hlt)
      have hq := ga_en_e hx0 (hQ i hlt)
      refine gw_end (by omega) (by omega) ?_
      refine gw_end (by omega) (by omega) ?_
      refine gw_and hok (ga_enx hp) hq (by omega) ?_
      intro r1 c1 z1
      refine gw_xor z1.2.1 (ga_en_e z1.1 hp) (ga_en_e z1.1 hq) (by omega) ?_
      intro r2 c2 z2
      have x2 := ga_ex_t z1.1 z2.1
      refine gw_and z2.2.1 (ga_enx z2.2.2.1) (ga_en_e x2 hl) (by omega) ?_
      intro r3 c3 z3
      refine gw_or z3.2.1 (ga_en_e z3.1 (ga_en_e z2.1 z1.2.2.1)) z3.2.2.1 (by omega) ?_
      intro r4 c4 z4
      have x4 := ga_ex_t x2 (ga_ex_t z3.1 z4.1)
      intro y' ey'
      have e2 := ey'.trans (nI_1 i)
      subst e2
      refine ih (i + 1) c4 r4 (by omega) (by omega) (ga_ex_t hx0 x4) (ga_mono z4.2.1 (Nat.le_refl _) (by omega)) z4.2.2.1 (fun w hw => ?_)
      have w3 := ga_con_e z4.1 hw
      have w2 := ga_con_e z3.1 w3
      have w1 := ga_con_e z2.1 w2
      have q1 : nb_lit w r1 = (nb_lit w (eo0 (6 * x + i) ^^^ 1) && nb_lit w (eo0 (6 * y + i))) := z1.2.2.2 w w1
      have q2 : nb_lit w r2 = (nb_lit w (eo0 (6 * x + i)) ^^ nb_lit w (eo0 (6 * y + i))) := z2.2.2.2 w w2
      have q3 : nb_lit w r3 = (nb_lit w (r2 ^^^ 1) && nb_lit w l) := z3.2.2.2 w w3
      have q4 : nb_lit w r4 = (nb_lit w r1 || nb_lit w r3) := z4.2.2.2 w hw
      refine rp_less (hI w (ga_con_e x4 hw)) ?_
      rw [q4, q3, q1, ga_lx z2.2.2.1, q2, ga_lx hp]
theorem gm_same6 {post : SX → Prop} {s x y W S B : Nat} {c0 : ga_C} {eo0 : Nat → Int32} (hs : s < 24) (hx : x < s) (hy : y < s) (hW : W ≤ 6) (hwd : wd x = nI W)
    (hP : ∀ i, i < W → ga_en c0 (eo0 (6 * x + i))) (hQ : ∀ i, i < W → ga_en c0 (eo0 (6 * y + i))) (hr : S + B + 4 * W ≤ 355)
    (K : ∀ c' eo', mk_ok c0 c' eo0 eo' s S (B + 4 * W) 1 (fun w => if vw_n w eo0 x W = vw_n w eo0 y W then 1 else 0) → post (sN, sC, sW, pP, pD, pE, c'.1, tc, lV, bU, pL, wH, sE, kd, ox, oy, oz, wd, fo, su, rd, dp, nx, en, hS, wO, nO, nW, c'.2.1, c'.2.2.1, c'.2.2.2.1, c'.2.2.2.2, eo', so, ne, io, td, tf, tb, vA, cH, mK, cA, sK)) :
    ∀ (n i : Nat) (c : ga_C) (l : Int32), W < n + i → i ≤ W → ga_ex c0 c → ga_ok c S (B + 4 * i) → ga_en c l →
      (∀ w, ga_con c w → nb_lit w l = decide (nb_n (fun j => nb_lit w (eo0 (6 * x + j))) i = nb_n (fun j => nb_lit w (eo0 (6 * y + j))) i)) →
      wX_makeSame_6 post (nI s) (nI x) (nI y) n l (nI i) sN sC sW pP pD pE c.1 tc lV bU pL wH sE kd ox oy oz wd fo su rd dp nx en hS wO nO nW c.2.1 c.2.2.1 c.2.2.2.1 c.2.2.2.2 eo0 so ne io td tf tb vA cH mK cA sK := by
  have hwd' : wd (nI x).toNatClampNeg = nI W := by rw [nI_clamp (by omega)]; exact hwd
  intro n
  induction n with
  | zero => intro i c l h1 h2; omega
  | succ n ih =>
    intro i c l h1 h2 hx0 hok hl hI
    unfold wX_makeSame_6
    refine ⟨vp_in_nI (by omega) (by omega), pk_le W i (fun hle => ?_) (fun hlt => ?_) hwd'⟩
    · have e : i = W := by omega
      subst e
      refine gw_set (i := 0) hs (by omega) hl ?_
      refine K c (upd eo0 (6 * s + 0) l) ⟨hx0, hok, fr_u (fr_r s eo0) (by omega), fun j hj => ?_, fun w hw => ?_⟩
      · rw [show j = 0 from by omega, pk_us]
        exact hl
      · have e1 : vw_n w (upd eo0 (6 * s + 0) l) s 1 = (nb_lit w l).toNat := by
          show 0 + (nb_lit w (upd eo0 (6 * s + 0) l (6 * s + 0))).toNat * 2 ^ 0 = _
          rw [pk_us]
          simp
        rw [e1, hI w hw]
        show (decide (vw_n w eo0 x i = vw_n w eo0 y i)).toNat = _
        by_cases q : vw_n w eo0 x i = vw_n w eo0 y i
        · simp [q]
        · simp [q]
    · have hp := ga_en_e hx0 (hP i hlt)
      have hq := ga_en_e hx0 (hQ i hlt)
      refine gw_end (by omega) (by omega) ?_
      refine gw_end (by omega) (by omega) ?_
      refine gw_xor hok hp hq (by omega) ?_
      intro r2 c2 z2
      refine gw_and z2.2.1 (ga_en_e z2.1 hl) (ga_enx z2.2.2.1) (by omega) ?_
      intro r3 c3 z3
      have x4 := ga_ex_t z2.1 z3.1
      intro y' ey'
      have e2 := ey'.trans (nI_1 i)
      subst e2
      refine ih (i + 1) c3 r3 (by omega) (by omega) (ga_ex_t hx0 x4) (ga_mono z3.2.1 (Nat.le_refl _) (by omega)) z3.2.2.1 (fun w hw => ?_)
      have w2 := ga_con_e z3.1 hw
      have q2 : nb_lit w r2 = (nb_lit w (eo0 (6 * x + i)) ^^ nb_lit w (eo0 (6 * y + i))) := z2.2.2.2 w w2
      have q3 : nb_lit w r3 = (nb_lit w l && nb_lit w (r2 ^^^ 1)) := z3.2.2.2 w hw
      refine rp_same (hI w (ga_con_e x4 hw)) ?_
      rw [q3, ga_lx z2.2.2.1, q2]
variable {c : ga_C} {eo : Nat → Int32}
theorem gm_less {post : SX → Prop} {s x y W S B : Nat} (hs : s < 24) (hx : x < s) (hy : y < s) (hW : W ≤ 6) (hwd : wd x = nI W) (h : ga_ok c S B)
    (hP : ∀ i, i < W → ga_en c (eo (6 * x + i))) (hQ : ∀ i, i < W → ga_en c (eo (6 * y + i))) (hr : S + B + 8 * W ≤ 355)
    (K : ∀ c' eo', mk_ok c c' eo eo' s S (B + 8 * W) 1 (fun w => if vw_n w eo x W < vw_n w eo y W then 1 else 0) → post (sN, sC, sW, pP, pD, pE, c'.1, tc, lV, bU, pL, wH, sE, kd, ox, oy, oz, wd, fo, su, rd, dp, nx, en, hS, wO, nO, nW, c'.2.1, c'.2.2.1, c'.2.2.2.1, c'.2.2.2.2, eo', so, ne, io, td, tf, tb, vA, cH, mK, cA, sK)) : wpX_makeLess post (sN, sC, sW, pP, pD, pE, c.1, tc, lV, bU, pL, wH, sE, kd, ox, oy, oz, wd, fo, su, rd, dp, nx, en, hS, wO, nO, nW, c.2.1, c.2.2.1, c.2.2.2.1, c.2.2.2.2, eo, so, ne, io, td, tf, tb, vA, cH, mK, cA, sK) (nI s) (nI x) (nI y) := by
  unfold wpX_makeLess
  exact ⟨W + 1, gm_less6 hs hx hy hW hwd hP hQ hr K (W + 1) 0 c 0 (by omega) (by omega) (ga_ex_r c) h (ga_en0 h) (fun w hw => by rw [ga_l0 hw]; rfl)⟩
theorem gm_same {post : SX → Prop} {s x y W S B : Nat} (hs : s < 24) (hx : x < s) (hy : y < s) (hW : W ≤ 6) (hwd : wd x = nI W) (h : ga_ok c S B)
    (hP : ∀ i, i < W → ga_en c (eo (6 * x + i))) (hQ : ∀ i, i < W → ga_en c (eo (6 * y + i))) (hr : S + B + 4 * W ≤ 355)
    (K : ∀ c' eo', mk_ok c c' eo eo' s S (B + 4 * W) 1 (fun w => if vw_n w eo x W = vw_n w eo y W then 1 else 0) → post (sN, sC, sW, pP, pD, pE, c'.1, tc, lV, bU, pL, wH, sE, kd, ox, oy, oz, wd, fo, su, rd, dp, nx, en, hS, wO, nO, nW, c'.2.1, c'.2.2.1, c'.2.2.2.1, c'.2.2.2.2, eo', so, ne, io, td, tf, tb, vA, cH, mK, cA, sK)) : wpX_makeSame post (sN, sC, sW, pP, pD, pE, c.1, tc, lV, bU, pL, wH, sE, kd, ox, oy, oz, wd, fo, su, rd, dp, nx, en, hS, wO, nO, nW, c.2.1, c.2.2.1, c.2.2.2.1, c.2.2.2.2, eo, so, ne, io, td, tf, tb, vA, cH, mK, cA, sK) (nI s) (nI x) (nI y) := by
  unfold wpX_makeSame
  exact ⟨W + 1, gm_same6 hs hx hy hW hwd hP hQ hr K (W + 1) 0 c 1 (by omega) (by omega) (ga_ex_r c) h (ga_en1 h) (fun w hw => by rw [ga_l1 hw]; rfl)⟩
end
/-! count -/
section
variable {sN sC sW pP pD pE tc lV bU pL wH sE : Int32} {kd ox oy oz wd fo su rd dp nx en hS wO nO nW so ne io td tf tb : Nat → Int32} {vA cH mK cA sK : Nat → Int64}
theorem gm_cnt43 {post : SX → Prop} {J : Int32 → Int32 → Int32 → Int32 → Int32 → Int32 → Int32 → Int32 → Int32 → Int32 → Int32 → Int32 → Int32 → Int32 → (Nat → Int32) → (Nat → Int32) → (Nat → Int32) → (Nat → Int32) → (Nat → Int32) → (Nat → Int32) → (Nat → Int32) → (Nat → Int32) → (Nat → Int32) → (Nat → Int32) → (Nat → Int32) → (Nat → Int32) → (Nat → Int32) → (Nat → Int32) → (Nat → Int32) → (Nat → Int32) → (Nat → Int32) → (Nat → Int32) → (Nat → Int32) → (Nat → Int32) → (Nat → Int32) → (Nat → Int32) → (Nat → Int32) → (Nat → Int32) → (Nat → Int32) → (Nat → Int32) → (Nat → Int64) → (Nat → Int64) → (Nat → Int64) → (Nat → Int64) → (Nat → Int64) → Prop} {s x i S B : Nat} {cr0 : Int32} {c0 : ga_C} {eo0 : Nat → Int32} (hs : s < 24)
    (hA : ∀ k, k < 3 → ga_en c0 (eo0 (6 * s + k))) (hr : S + B + 12 ≤ 355)
    (K : ∀ c' eo', ga_ex c0 c' → ga_ok c' S (B + 12) → fr_s s eo0 eo' → (∀ k, k < 3 → ga_en c' (eo' (6 * s + k))) → (∀ w, ga_con c' w → ∃ cb : Nat, vw_n w eo' s 3 + cb * 2 ^ 3 = vw_n w eo0 s 3 + (nb_lit w cr0).toNat) → J (nI (i + 1)) sN sC sW pP pD pE c'.1 tc lV bU pL wH sE kd ox oy oz wd fo su rd dp nx en hS wO nO nW c'.2.1 c'.2.2.1 c'.2.2.2.1 c'.2.2.2.2 eo' so ne io td tf tb vA cH mK cA sK) :
    ∀ (n k : Nat) (c : ga_C) (eo : Nat → Int32) (cr : Int32), 3 < n + k → k ≤ 3 → ga_ex c0 c → ga_ok c S (B + 4 * k) → fr_s s eo0 eo → (∀ j, j < 3 → ga_en c (eo (6 * s + j))) → (∀ j, k ≤ j → eo (6 * s + j) = eo0 (6 * s + j)) → ga_en c cr →
      (∀ w, ga_con c w → nb_n (fun j => nb_lit w (eo (6 * s + j))) k + (nb_lit w cr).toNat * 2 ^ k = nb_n (fun j => nb_lit w (eo0 (6 * s + j))) k + (nb_lit w cr0).toNat) →
      wX_makeCount_43 post J (nI s) (nI x) (nI i) n cr (nI k) sN sC sW pP pD pE c.1 tc lV bU pL wH sE kd ox oy oz wd fo su rd dp nx en hS wO nO nW c.2.1 c.2.2.1 c.2.2.2.1 c.2.2.2.2 eo so ne io td tf tb vA cH mK cA sK := by
  intro n
  induction n with
  | zero => intro k c eo cr h1 h2; omega
  | succ n ih =>
    intro k c eo cr h1 h2 hx0 hok hfr hen hun hcr hI
    unfold wX_makeCount_43
    refine pk_le 3 k (fun hle => ?_) (fun hlt => ?_)
    · have e : k = 3 := by omega
      subst e
      intro y' ey'
      have e2 := ey'.trans (nI_1 i)
      subst e2
      exact K c eo hx0 hok hfr hen (fun w hw => ⟨_, hI w hw⟩)
    · have es := hun k (Nat.le_refl _)
      refine gw_end hs (by omega) ?_
      rw [es]
      have hk := ga_en_e hx0 (hA k hlt)
      refine gw_xor hok hk hcr (by omega) ?_
      intro r1 c1 z1
      refine gw_and z1.2.1 (ga_en_e z1.1 hk) (ga_en_e z1.1 hcr) (by omega) ?_
      intro r2 c2 z2
      have x2 := ga_ex_t z1.1 z2.1
      refine gw_set hs (by omega) (ga_en_e z2.1 z1.2.2.1) ?_
      intro y' ey'
      have e2 := ey'.trans (nI_1 k)
      subst e2
      refine ih (k + 1) c2 (upd eo (6 * s + k) r1) r2 (by omega) (by omega) (ga_ex_t hx0 x2) (ga_mono z2.2.1 (Nat.le_refl _) (by omega)) (fr_u hfr (by omega)) (fr_enW x2 hen (ga_en_e z2.1 z1.2.2.1)) (fun j hj => by rw [up_j (by omega)]; exact hun j (by omega)) z2.2.2.1 (fun w hw => ?_)
      have w1 := ga_con_e z2.1 hw
      refine rp_inc (hI w (ga_con_e x2 hw)) (fun j hj => ?_) ?_ (z2.2.2.2 w hw)
      · show nb_lit w (upd eo (6 * s + k) r1 (6 * s + j)) = _
        rw [up_j (by omega)]
      · show nb_lit w (upd eo (6 * s + k) r1 (6 * s + k)) = _
        rw [pk_us]
        exact z1.2.2.2 w w1
theorem gm_cnt22 {post : SX → Prop} {s x W S B : Nat} {c0 : ga_C} {eo0 : Nat → Int32} (hs : s < 24) (hx : x < s) (hW : W ≤ 6) (hwd : wd x = nI W)
    (hP : ∀ i, i < W → ga_en c0 (eo0 (6 * x + i))) (hr : S + B + 12 * W ≤ 355)
    (K : ∀ c' eo', mk_ok c0 c' eo0 eo' s S (B + 12 * W) 3 (fun w => pc_n (fun i => nb_lit w (eo0 (6 * x + i))) W) → post (sN, sC, sW, pP, pD, pE, c'.1, tc, lV, bU, pL, wH, sE, kd, ox, oy, oz, wd, fo, su, rd, dp, nx, en, hS, wO, nO, nW, c'.2.1, c'.2.2.1, c'.2.2.2.1, c'.2.2.2.2, eo', so, ne, io, td, tf, tb, vA, cH, mK, cA, sK)) :
    ∀ (n i : Nat) (c : ga_C) (eo : Nat → Int32), W < n + i → i ≤ W → ga_ex c0 c → ga_ok c S (B + 12 * i) → fr_s s eo0 eo → (∀ j, j < 3 → ga_en c (eo (6 * s + j))) →
      (∀ w, ga_con c w → vw_n w eo s 3 = pc_n (fun j => nb_lit w (eo0 (6 * x + j))) i) → wX_makeCount_22 post (nI s) (nI x) n (nI i) sN sC sW pP pD pE c.1 tc lV bU pL wH sE kd ox oy oz wd fo su rd dp nx en hS wO nO nW c.2.1 c.2.2.1 c.2.2.2.1 c.2.2.2.2 eo so ne io td tf tb vA cH mK cA sK := by
  have hwd' : wd (nI x).toNatClampNeg = nI W := by rw [nI_clamp (by omega)]; exact hwd
  intro n
  induction n with
  | zero => intro i c eo h1 h2; omega
  | succ n ih =>
    intro i c eo h1 h2 hx0 hok hfr hen hI
    unfold wX_makeCount_22
    refine ⟨vp_in_nI (by omega) (by omega), pk_le W i (fun hle => ?_) (fun hlt => ?_) hwd'⟩
    · have e : i = W := by omega
      subst e
      exact K c eo ⟨hx0, hok, hfr, hen, hI⟩
    · have ex := fr_x hfr hx (i := i) (by omega)
      refine gw_end (by omega) (by omega) ?_
      rw [ex]
      refine ⟨4, gm_cnt43 (c0 := c) (eo0 := eo) (cr0 := eo0 (6 * x + i)) (B := B + 12 * i) hs hen (by omega) ?_ 4 0 c eo _ (by omega) (by omega) (ga_ex_r c) hok (fr_r s eo) hen (fun _ _ => rfl) (ga_en_e hx0 (hP i hlt)) (fun w hw => ?_)⟩
      · intro c' eo' x1 x2 x3 x4 x5
        refine ih (i + 1) c' eo' (by omega) (by omega) (ga_ex_t hx0 x1) (ga_mono x2 (Nat.le_refl _) (by omega)) (fun j hj => (x3 j hj).trans (hfr j hj)) x4 (fun w hw => ?_)
        obtain ⟨cb, hb⟩ := x5 w hw
        rw [hI w (ga_con_e x1 hw)] at hb
        have l1 := pc_le (fun j => nb_lit w (eo0 (6 * x + j))) (i + 1)
        have l2 : pc_n (fun j => nb_lit w (eo0 (6 * x + j))) (i + 1) = pc_n (fun j => nb_lit w (eo0 (6 * x + j))) i + (nb_lit w (eo0 (6 * x + i))).toNat := rfl
        omega
      · show 0 + _ * 2 ^ 0 = 0 + _
        simp
theorem gm_cnt2 {post : SX → Prop} {s x W S B : Nat} {c : ga_C} {eo0 : Nat → Int32} (hs : s < 24) (hx : x < s) (hW : W ≤ 6) (hwd : wd x = nI W) (h : ga_ok c S B)
    (hP : ∀ i, i < W → ga_en c (eo0 (6 * x + i))) (hr : S + B + 12 * W ≤ 355)
    (K : ∀ c' eo', mk_ok c c' eo0 eo' s S (B + 12 * W) 3 (fun w => pc_n (fun i => nb_lit w (eo0 (6 * x + i))) W) → post (sN, sC, sW, pP, pD, pE, c'.1, tc, lV, bU, pL, wH, sE, kd, ox, oy, oz, wd, fo, su, rd, dp, nx, en, hS, wO, nO, nW, c'.2.1, c'.2.2.1, c'.2.2.2.1, c'.2.2.2.2, eo', so, ne, io, td, tf, tb, vA, cH, mK, cA, sK)) :
    ∀ (n i : Nat) (eo : Nat → Int32), 3 < n + i → i ≤ 3 → fr_s s eo0 eo → (∀ j, j < i → eo (6 * s + j) = 0) → wX_makeCount_2 post (nI s) (nI x) n (nI i) sN sC sW pP pD pE c.1 tc lV bU pL wH sE kd ox oy oz wd fo su rd dp nx en hS wO nO nW c.2.1 c.2.2.1 c.2.2.2.1 c.2.2.2.2 eo so ne io td tf tb vA cH mK cA sK := by
  intro n
  induction n with
  | zero => intro i eo h1 h2; omega
  | succ n ih =>
    intro i eo h1 h2 hfr hen
    unfold wX_makeCount_2
    refine pk_le 3 i (fun hle => ?_) (fun hlt => ?_)
    · have e : i = 3 := by omega
      subst e
      refine ⟨W + 1, gm_cnt22 (c0 := c) hs hx hW hwd hP hr K (W + 1) 0 c eo (by omega) (by omega) (ga_ex_r c) h hfr (fun j hj => by rw [hen j hj]; exact ga_en0 h) (fun w hw => ?_)⟩
      refine nb_eq (k := 3) (n := 0) (by decide) (fun j hj => ?_)
      show nb_lit w (eo (6 * s + j)) = Nat.testBit 0 j
      rw [hen j hj, ga_l0 hw]
      simp
    · refine gw_set hs (by omega) (ga_en0 h) ?_
      intro y' ey'
      have e2 := ey'.trans (nI_1 i)
      subst e2
      refine ih (i + 1) (upd eo (6 * s + i) 0) (by omega) (by omega) (fr_u hfr (by omega)) (fun j hj => ?_)
      by_cases q : j = i
      · rw [q, pk_us]
      · rw [up_j q]; exact hen j (by omega)
variable {c : ga_C} {eo : Nat → Int32}
theorem gm_count {post : SX → Prop} {s x W S B : Nat} (hs : s < 24) (hx : x < s) (hW : W ≤ 6) (hwd : wd x = nI W) (h : ga_ok c S B)
    (hP : ∀ i, i < W → ga_en c (eo (6 * x + i))) (hr : S + B + 12 * W ≤ 355)
    (K : ∀ c' eo', mk_ok c c' eo eo' s S (B + 12 * W) 3 (fun w => pc_n (fun i => nb_lit w (eo (6 * x + i))) W) → post (sN, sC, sW, pP, pD, pE, c'.1, tc, lV, bU, pL, wH, sE, kd, ox, oy, oz, wd, fo, su, rd, dp, nx, en, hS, wO, nO, nW, c'.2.1, c'.2.2.1, c'.2.2.2.1, c'.2.2.2.2, eo', so, ne, io, td, tf, tb, vA, cH, mK, cA, sK)) : wpX_makeCount post (sN, sC, sW, pP, pD, pE, c.1, tc, lV, bU, pL, wH, sE, kd, ox, oy, oz, wd, fo, su, rd, dp, nx, en, hS, wO, nO, nW, c.2.1, c.2.2.1, c.2.2.2.1, c.2.2.2.2, eo, so, ne, io, td, tf, tb, vA, cH, mK, cA, sK) (nI s) (nI x) := by
  unfold wpX_makeCount
  exact ⟨4, gm_cnt2 hs hx hW hwd h hP hr K 4 0 eo (by omega) (by omega) (fr_r s eo) (fun j hj => absurd hj (by omega))⟩
end
/-! read -/
section
variable {sN sC sW pP pD pE tc lV bU pL wH sE : Int32} {kd ox oy oz wd fo su rd dp nx en hS wO nO nW so ne io td tf tb : Nat → Int32} {vA cH mK cA sK : Nat → Int64}
theorem gm_read18 {post : SX → Prop} {s S B : Nat} {fv : Nat → Bool} {c0 : ga_C} {eo0 : Nat → Int32} (hs : s < 24) (hso : so_ok c0 so) (hv : sv_ok hS wO) (hf : ∀ b, 144 ≤ b → b < 160 → so b = -1 → fv b = sv_b hS wO b)
    {lo hi : Int32} (hlo : ga_en c0 lo) (hhi : ga_en c0 hi) (hr : S + B + 40 ≤ 355)
    (K : ∀ c' eo', ga_ex c0 c' → ga_ok c' S (B + 40) → fr_s s eo0 eo' → (∀ i, i < 4 → ga_en c' (eo' (6 * s + i))) → (∀ w, ga_con c' w → ∀ i, i < 4 → nb_lit w (eo' (6 * s + i)) = sg_w w so fv (144 + 4 * ((nb_lit w lo).toNat + 2 * (nb_lit w hi).toNat) + i)) → post (sN, sC, sW, pP, pD, pE, c'.1, tc, lV, bU, pL, wH, sE, kd, ox, oy, oz, wd, fo, su, rd, dp, nx, en, hS, wO, nO, nW, c'.2.1, c'.2.2.1, c'.2.2.2.1, c'.2.2.2.2, eo', so, ne, io, td, tf, tb, vA, cH, mK, cA, sK)) :
    ∀ (n i : Nat) (c : ga_C) (eo : Nat → Int32), 4 < n + i → i ≤ 4 → ga_ex c0 c → ga_ok c S (B + 10 * i) → fr_s s eo0 eo → (∀ j, j < i → ga_en c (eo (6 * s + j))) →
      (∀ w, ga_con c w → ∀ j, j < i → nb_lit w (eo (6 * s + j)) = sg_w w so fv (144 + 4 * ((nb_lit w lo).toNat + 2 * (nb_lit w hi).toNat) + j)) → wX_makeRead_18 post (nI s) lo hi n (nI i) sN sC sW pP pD pE c.1 tc lV bU pL wH sE kd ox oy oz wd fo su rd dp nx en hS wO nO nW c.2.1 c.2.2.1 c.2.2.2.1 c.2.2.2.2 eo so ne io td tf tb vA cH mK cA sK := by
  intro n
  induction n with
  | zero => intro i c eo h1 h2; omega
  | succ n ih =>
    intro i c eo h1 h2 hx0 hok hfr hen hI
    unfold wX_makeRead_18
    refine pk_le 4 i (fun hle => ?_) (fun hlt => ?_)
    · have e : i = 4 := by omega
      subst e
      exact K c eo hx0 hok hfr hen hI
    · have e0 : 144 + nI i = nI (144 + i) := nI_add 144 i
      have e1 : 148 + nI i = nI (148 + i) := nI_add 148 i
      have e2 : 152 + nI i = nI (152 + i) := nI_add 152 i
      have e3 : 156 + nI i = nI (156 + i) := nI_add 156 i
      rw [e0, e1, e2, e3]
      have hso' := so_e hx0 hso
      refine gw_stateEnd (fv := fv) (by omega) hok (by omega) hso' hv (hf _ (by omega) (by omega)) ?_
      intro a0 ha0 va0
      refine gw_stateEnd (fv := fv) (by omega) hok (by omega) hso' hv (hf _ (by omega) (by omega)) ?_
      intro a1 ha1 va1
      refine gw_stateEnd (fv := fv) (by omega) hok (by omega) hso' hv (hf _ (by omega) (by omega)) ?_
      intro a2 ha2 va2
      refine gw_stateEnd (fv := fv) (by omega) hok (by omega) hso' hv (hf _ (by omega) (by omega)) ?_
      intro a3 ha3 va3
      refine gw_pick hok (ga_en_e hx0 hlo) ha1 ha0 (by omega) ?_
      intro r1 c1 z1
      refine gw_pick z1.2.1 (ga_en_e z1.1 (ga_en_e hx0 hlo)) (ga_en_e z1.1 ha3) (ga_en_e z1.1 ha2) (by omega) ?_
      intro r2 c2 z2
      have x2 := ga_ex_t z1.1 z2.1
      refine gw_pick z2.2.1 (ga_en_e x2 (ga_en_e hx0 hhi)) z2.2.2.1 (ga_en_e z2.1 z1.2.2.1) (by omega) ?_
      intro r3 c3 z3
      have x3 := ga_ex_t x2 z3.1
      refine gw_set hs (by omega) z3.2.2.1 ?_
      intro y' ey'
      have e5 := ey'.trans (nI_1 i)
      subst e5
      refine ih (i + 1) c3 (upd eo (6 * s + i) r3) (by omega) (by omega) (ga_ex_t hx0 x3) (ga_mono z3.2.1 (Nat.le_refl _) (by omega)) (fr_u hfr (by omega)) (fr_en x3 hen z3.2.2.1) (fun w hw j hj => ?_)
      by_cases q : j = i
      · subst q
        rw [pk_us]
        have w2 := ga_con_e z3.1 hw
        have w1 := ga_con_e z2.1 w2
        have w0 := ga_con_e z1.1 w1
        have q3 : nb_lit w r3 = (if nb_lit w hi = true then nb_lit w r2 else nb_lit w r1) := z3.2.2.2 w hw
        have q2 : nb_lit w r2 = (if nb_lit w lo = true then nb_lit w a3 else nb_lit w a2) := z2.2.2.2 w w2
        have q1 : nb_lit w r1 = (if nb_lit w lo = true then nb_lit w a1 else nb_lit w a0) := z1.2.2.2 w w1
        rw [q3, q2, q1, va0 w w0, va1 w w0, va2 w w0, va3 w w0]
        cases nb_lit w lo <;> cases nb_lit w hi
        · rfl
        · exact congrArg (sg_w w so fv) (by simp)
        · exact congrArg (sg_w w so fv) (by simp)
        · exact congrArg (sg_w w so fv) (by simp)
      · rw [up_j q]
        exact hI w (ga_con_e x3 hw) j (by omega)
variable {c : ga_C} {eo : Nat → Int32}
theorem gm_read {post : SX → Prop} {s x S B : Nat} {fv : Nat → Bool} (hs : s < 24) (hx : x < s) (h : ga_ok c S B) (hso : so_ok c so) (hv : sv_ok hS wO) (hf : ∀ b, 144 ≤ b → b < 160 → so b = -1 → fv b = sv_b hS wO b)
    (hP : ∀ i, i < 2 → ga_en c (eo (6 * x + i))) (hr : S + B + 40 ≤ 355)
    (K : ∀ c' eo', mk_ok c c' eo eo' s S (B + 40) 4 (fun w => nb_n (fun i => sg_w w so fv (144 + 4 * vw_n w eo x 2 + i)) 4) → post (sN, sC, sW, pP, pD, pE, c'.1, tc, lV, bU, pL, wH, sE, kd, ox, oy, oz, wd, fo, su, rd, dp, nx, en, hS, wO, nO, nW, c'.2.1, c'.2.2.1, c'.2.2.2.1, c'.2.2.2.2, eo', so, ne, io, td, tf, tb, vA, cH, mK, cA, sK)) : wpX_makeRead post (sN, sC, sW, pP, pD, pE, c.1, tc, lV, bU, pL, wH, sE, kd, ox, oy, oz, wd, fo, su, rd, dp, nx, en, hS, wO, nO, nW, c.2.1, c.2.2.1, c.2.2.2.1, c.2.2.2.2, eo, so, ne, io, td, tf, tb, vA, cH, mK, cA, sK) (nI s) (nI x) := by
  unfold wpX_makeRead
  refine gw_end (i := 0) (by omega) (by omega) ?_
  refine gw_end (i := 1) (by omega) (by omega) ?_
  refine ⟨5, gm_read18 (fv := fv) hs hso hv hf (hP 0 (by omega)) (hP 1 (by omega)) hr ?_ 5 0 c eo (by omega) (by omega) (ga_ex_r c) h (fr_r s eo) (fun j hj => absurd hj (by omega)) (fun w hw j hj => absurd hj (by omega))⟩
  intro c' eo' x1 x2 x3 x4 x5
  refine K c' eo' ⟨x1, x2, x3, x4, fun w hw => nb_cg 4 (fun i hi => ?_)⟩
  rw [x5 w hw i hi]
  have e : vw_n w eo x 2 = (nb_lit w (eo (6 * x + 0))).toNat + 2 * (nb_lit w (eo (6 * x + 1))).toNat := vw_2
  rw [e]
end
end
section
/-! makers: shifts (written by mkshift.py) -/
section
variable {sN sC sW pP pD pE tc lV bU pL wH sE : Int32} {kd ox oy oz wd fo su rd dp nx en hS wO nO nW so ne io td tf tb : Nat → Int32} {vA cH mK cA sK : Nat → Int64}
variable {c : ga_C} {eo : Nat → Int32}
theorem gm_sh142 {post : SX → Prop} {J46 J64 : Int32 → Int32 → Int32 → Int32 → Int32 → Int32 → Int32 → Int32 → Int32 → Int32 → Int32 → Int32 → Int32 → Int32 → (Nat → Int32) → (Nat → Int32) → (Nat → Int32) → (Nat → Int32) → (Nat → Int32) → (Nat → Int32) → (Nat → Int32) → (Nat → Int32) → (Nat → Int32) → (Nat → Int32) → (Nat → Int32) → (Nat → Int32) → (Nat → Int32) → (Nat → Int32) → (Nat → Int32) → (Nat → Int32) → (Nat → Int32) → (Nat → Int32) → (Nat → Int32) → (Nat → Int32) → (Nat → Int32) → (Nat → Int32) → (Nat → Int32) → (Nat → Int32) → (Nat → Int32) → (Nat → Int32) → (Nat → Int64) → (Nat → Int64) → (Nat → Int64) → (Nat → Int64) → (Nat → Int64) → Prop} {x3 x4 x5 x6 b m : Int32} {s i k S B : Nat} (h : ga_ok c S B) (hs : s < 24) (hi : i < 6) (hb : ga_en c b) (hm : ga_en c m) (he : ga_en c (eo (6 * s + i))) (hr : S + B + 3 ≤ 355)
    (K : ∀ r c', ga_rz c c' S (B + 3) r (fun w => if nb_lit w b = true then nb_lit w m else nb_lit w (eo (6 * s + i))) → J64 (nI (k + 1)) sN sC sW pP pD pE c'.1 tc lV bU pL wH sE kd ox oy oz wd fo su rd dp nx en hS wO nO nW c'.2.1 c'.2.2.1 c'.2.2.2.1 c'.2.2.2.2 (upd eo (6 * s + i) r) so ne io td tf tb vA cH mK cA sK) :
    wX_makeShift_142 post J46 J64 (nI s) x3 x4 x5 x6 b (nI k) (nI i) m sN sC sW pP pD pE c.1 tc lV bU pL wH sE kd ox oy oz wd fo su rd dp nx en hS wO nO nW c.2.1 c.2.2.1 c.2.2.2.1 c.2.2.2.2 eo so ne io td tf tb vA cH mK cA sK := by
  have e : (6 * nI s) + nI i = nI (6 * s + i) := by
    rw [show 6 * nI s = nI (6 * s) from pk_mul 6 s, nI_add]
  unfold wX_makeShift_142
  rw [e, nI_clamp (by omega)]
  refine ⟨vp_in_nI (by omega) (by omega), ?_⟩
  refine gw_pick h hb hm he hr ?_
  intro r c' z
  refine gw_set hs hi z.2.2.1 ?_
  intro y' ey'
  have e2 := ey'.trans (nI_1 k)
  subst e2
  exact K r c' z
end
section
variable {sN sC sW pP pD pE tc lV bU pL wH sE : Int32} {kd ox oy oz wd fo su rd dp nx en hS wO nO nW so ne io td tf tb : Nat → Int32} {vA cH mK cA sK : Nat → Int64}
theorem gm_shR64 {post : SX → Prop} {J46 : Int32 → Int32 → Int32 → Int32 → Int32 → Int32 → Int32 → Int32 → Int32 → Int32 → Int32 → Int32 → Int32 → Int32 → (Nat → Int32) → (Nat → Int32) → (Nat → Int32) → (Nat → Int32) → (Nat → Int32) → (Nat → Int32) → (Nat → Int32) → (Nat → Int32) → (Nat → Int32) → (Nat → Int32) → (Nat → Int32) → (Nat → Int32) → (Nat → Int32) → (Nat → Int32) → (Nat → Int32) → (Nat → Int32) → (Nat → Int32) → (Nat → Int32) → (Nat → Int32) → (Nat → Int32) → (Nat → Int32) → (Nat → Int32) → (Nat → Int32) → (Nat → Int32) → (Nat → Int32) → (Nat → Int32) → (Nat → Int64) → (Nat → Int64) → (Nat → Int64) → (Nat → Int64) → (Nat → Int64) → Prop} {x3 b : Int32} {s W S B st d : Nat} {c0 : ga_C} {eo0 : Nat → Int32} (hs : s < 24) (hW : W ≤ 6) (hd : (1 : Int32) <<< (nI st &&& 31) = nI d) (hd0 : 0 < d) (hd2 : d ≤ 2) (hb : ga_en c0 b) (hA : ∀ j, j < W → ga_en c0 (eo0 (6 * s + j))) (hr : S + B + 3 * W ≤ 355)
    (K : ∀ c' eo', ga_ex c0 c' → ga_ok c' S (B + 3 * W) → fr_s s eo0 eo' → (∀ j, j < W → ga_en c' (eo' (6 * s + j))) → (∀ w, ga_con c' w → ∀ j, j < W → nb_lit w (eo' (6 * s + j)) = if nb_lit w b = true then (decide (j + d < W) && nb_lit w (eo0 (6 * s + (j + d)))) else nb_lit w (eo0 (6 * s + j))) → J46 (nI (st + 1)) sN sC sW pP pD pE c'.1 tc lV bU pL wH sE kd ox oy oz wd fo su rd dp nx en hS wO nO nW c'.2.1 c'.2.2.1 c'.2.2.2.1 c'.2.2.2.2 eo' so ne io td tf tb vA cH mK cA sK) :
    ∀ (n k : Nat) (c : ga_C) (eo : Nat → Int32), W < n + k → k ≤ W → ga_ex c0 c → ga_ok c S (B + 3 * k) → fr_s s eo0 eo → (∀ j, j < W → ga_en c (eo (6 * s + j))) → (∀ j, k ≤ j → eo (6 * s + j) = eo0 (6 * s + j)) →
      (∀ w, ga_con c w → ∀ j, j < W → j < k → nb_lit w (eo (6 * s + j)) = if nb_lit w b = true then (decide (j + d < W) && nb_lit w (eo0 (6 * s + (j + d)))) else nb_lit w (eo0 (6 * s + j))) →
      wX_makeShift_64 post J46 (nI s) x3 0 (nI W) (nI st) b n (nI k) sN sC sW pP pD pE c.1 tc lV bU pL wH sE kd ox oy oz wd fo su rd dp nx en hS wO nO nW c.2.1 c.2.2.1 c.2.2.2.1 c.2.2.2.2 eo so ne io td tf tb vA cH mK cA sK := by
  intro n
  induction n with
  | zero => intro k c eo h1 h2; omega
  | succ n ih =>
    intro k c eo h1 h2 hx0 hok hfr hen hun hI
    unfold wX_makeShift_64
    refine pk_le W k (fun hle => ?_) (fun hlt => ?_)
    · have e : k = W := by omega
      subst e
      intro y' ey'
      have e2 := ey'.trans (nI_1 st)
      subst e2
      exact K c eo hx0 hok hfr hen (fun w hw j hj => hI w hw j hj (by omega))
    · have es := hun k (by omega)
      have step : ∀ m : Int32, ga_en c m → (∀ w, ga_con c w → nb_lit w m = (decide (k + d < W) && nb_lit w (eo0 (6 * s + (k + d))))) →
          wX_makeShift_142 post J46 (wX_makeShift_64 post J46 (nI s) x3 0 (nI W) (nI st) b n) (nI s) x3 0 (nI W) (nI st) b (nI k) (nI k) m sN sC sW pP pD pE c.1 tc lV bU pL wH sE kd ox oy oz wd fo su rd dp nx en hS wO nO nW c.2.1 c.2.2.1 c.2.2.2.1 c.2.2.2.2 eo so ne io td tf tb vA cH mK cA sK := by
        intro m hm hmv
        refine gm_sh142 hok hs (by omega) (ga_en_e hx0 hb) hm (hen _ (by omega)) (by omega) ?_
        intro r c' z
        refine ih (k + 1) c' (upd eo (6 * s + k) r) (by omega) (by omega) (ga_ex_t hx0 z.1) (ga_mono z.2.1 (Nat.le_refl _) (by omega)) (fr_u hfr (by omega)) (fr_enW z.1 hen z.2.2.1) (fun j hj => by rw [up_j (by omega)]; exact hun j (by omega)) (fun w hw j hj hp => ?_)
        by_cases q : j = k
        · rw [q, pk_us]
          have q1 : nb_lit w r = (if nb_lit w b = true then nb_lit w m else nb_lit w (eo (6 * s + k))) := z.2.2.2 w hw
          rw [q1, hmv w (ga_con_e z.1 hw), es]
        · rw [up_j q]
          exact hI w (ga_con_e z.1 hw) j hj (by omega)
      refine br_t rfl ?_
      unfold wX_makeShift_88
      refine br_t rfl ?_
      rw [hd, nI_add]
      unfold wX_makeShift_112
      refine br_f (nI_pos (by omega)) (pk_lt (k + d) W (fun q => ?_) (fun q => ?_))
      · have e : (6 * nI s) + nI (k + d) = nI (6 * s + (k + d)) := by
          rw [show 6 * nI s = nI (6 * s) from pk_mul 6 s, nI_add]
        rw [e, nI_clamp (by omega)]
        refine ⟨vp_in_nI (by omega) (by omega), ?_⟩
        have ed := hun (k + d) (by omega)
        refine step _ (hen _ q) (fun w hw => ?_)
        rw [ed]
        simp [q]
      · unfold wX_makeShift_126
        refine step 0 (ga_en0 hok) (fun w hw => ?_)
        rw [ga_l0 hw]
        have q' : ¬ k + d < W := by omega
        simp [q']
end
section
variable {sN sC sW pP pD pE tc lV bU pL wH sE : Int32} {kd ox oy oz wd fo su rd dp nx en hS wO nO nW so ne io td tf tb : Nat → Int32} {vA cH mK cA sK : Nat → Int64}
theorem gm_shL64 {post : SX → Prop} {J46 : Int32 → Int32 → Int32 → Int32 → Int32 → Int32 → Int32 → Int32 → Int32 → Int32 → Int32 → Int32 → Int32 → Int32 → (Nat → Int32) → (Nat → Int32) → (Nat → Int32) → (Nat → Int32) → (Nat → Int32) → (Nat → Int32) → (Nat → Int32) → (Nat → Int32) → (Nat → Int32) → (Nat → Int32) → (Nat → Int32) → (Nat → Int32) → (Nat → Int32) → (Nat → Int32) → (Nat → Int32) → (Nat → Int32) → (Nat → Int32) → (Nat → Int32) → (Nat → Int32) → (Nat → Int32) → (Nat → Int32) → (Nat → Int32) → (Nat → Int32) → (Nat → Int32) → (Nat → Int32) → (Nat → Int32) → (Nat → Int64) → (Nat → Int64) → (Nat → Int64) → (Nat → Int64) → (Nat → Int64) → Prop} {x3 b : Int32} {s W S B st d : Nat} {c0 : ga_C} {eo0 : Nat → Int32} (hs : s < 24) (hW : W ≤ 6) (hd : (1 : Int32) <<< (nI st &&& 31) = nI d) (hd0 : 0 < d) (hd2 : d ≤ 2) (hb : ga_en c0 b) (hA : ∀ j, j < W → ga_en c0 (eo0 (6 * s + j))) (hr : S + B + 3 * W ≤ 355)
    (K : ∀ c' eo', ga_ex c0 c' → ga_ok c' S (B + 3 * W) → fr_s s eo0 eo' → (∀ j, j < W → ga_en c' (eo' (6 * s + j))) → (∀ w, ga_con c' w → ∀ j, j < W → nb_lit w (eo' (6 * s + j)) = if nb_lit w b = true then (decide (d ≤ j) && nb_lit w (eo0 (6 * s + (j - d)))) else nb_lit w (eo0 (6 * s + j))) → J46 (nI (st + 1)) sN sC sW pP pD pE c'.1 tc lV bU pL wH sE kd ox oy oz wd fo su rd dp nx en hS wO nO nW c'.2.1 c'.2.2.1 c'.2.2.2.1 c'.2.2.2.2 eo' so ne io td tf tb vA cH mK cA sK) :
    ∀ (n k : Nat) (c : ga_C) (eo : Nat → Int32), W < n + k → k ≤ W → ga_ex c0 c → ga_ok c S (B + 3 * k) → fr_s s eo0 eo → (∀ j, j < W → ga_en c (eo (6 * s + j))) → (∀ j, j + k < W → eo (6 * s + j) = eo0 (6 * s + j)) →
      (∀ w, ga_con c w → ∀ j, j < W → W ≤ j + k → nb_lit w (eo (6 * s + j)) = if nb_lit w b = true then (decide (d ≤ j) && nb_lit w (eo0 (6 * s + (j - d)))) else nb_lit w (eo0 (6 * s + j))) →
      wX_makeShift_64 post J46 (nI s) x3 1 (nI W) (nI st) b n (nI k) sN sC sW pP pD pE c.1 tc lV bU pL wH sE kd ox oy oz wd fo su rd dp nx en hS wO nO nW c.2.1 c.2.2.1 c.2.2.2.1 c.2.2.2.2 eo so ne io td tf tb vA cH mK cA sK := by
  intro n
  induction n with
  | zero => intro k c eo h1 h2; omega
  | succ n ih =>
    intro k c eo h1 h2 hx0 hok hfr hen hun hI
    unfold wX_makeShift_64
    refine pk_le W k (fun hle => ?_) (fun hlt => ?_)
    · have e : k = W := by omega
      subst e
      intro y' ey'
      have e2 := ey'.trans (nI_1 st)
      subst e2
      exact K c eo hx0 hok hfr hen (fun w hw j hj => hI w hw j hj (by omega))
    · have es := hun (W - 1 - k) (by omega)
      have step : ∀ m : Int32, ga_en c m → (∀ w, ga_con c w → nb_lit w m = (decide (d ≤ W - 1 - k) && nb_lit w (eo0 (6 * s + (W - 1 - k - d))))) →
          wX_makeShift_142 post J46 (wX_makeShift_64 post J46 (nI s) x3 1 (nI W) (nI st) b n) (nI s) x3 1 (nI W) (nI st) b (nI k) (nI (W - 1 - k)) m sN sC sW pP pD pE c.1 tc lV bU pL wH sE kd ox oy oz wd fo su rd dp nx en hS wO nO nW c.2.1 c.2.2.1 c.2.2.2.1 c.2.2.2.2 eo so ne io td tf tb vA cH mK cA sK := by
        intro m hm hmv
        refine gm_sh142 hok hs (by omega) (ga_en_e hx0 hb) hm (hen _ (by omega)) (by omega) ?_
        intro r c' z
        refine ih (k + 1) c' (upd eo (6 * s + (W - 1 - k)) r) (by omega) (by omega) (ga_ex_t hx0 z.1) (ga_mono z.2.1 (Nat.le_refl _) (by omega)) (fr_u hfr (by omega)) (fr_enW z.1 hen z.2.2.1) (fun j hj => by rw [up_j (by omega)]; exact hun j (by omega)) (fun w hw j hj hp => ?_)
        by_cases q : j = (W - 1 - k)
        · rw [q, pk_us]
          have q1 : nb_lit w r = (if nb_lit w b = true then nb_lit w m else nb_lit w (eo (6 * s + (W - 1 - k)))) := z.2.2.2 w hw
          rw [q1, hmv w (ga_con_e z.1 hw), es]
        · rw [up_j q]
          exact hI w (ga_con_e z.1 hw) j hj (by omega)
      refine br_f (by decide) ?_
      have e1 : (nI W - 1) - nI k = nI (W - 1 - k) := by
        rw [show nI W - 1 = nI (W - 1) from pk_sub (b := 1) (by omega), pk_sub (by omega)]
      rw [e1]
      unfold wX_makeShift_88
      refine br_f (by decide) ?_
      rw [hd]
      unfold wX_makeShift_112
      by_cases q : d ≤ W - 1 - k
      · rw [pk_sub q]
        refine br_f (nI_pos (by omega)) (br_t (nI_lt (by omega) (by omega)) ?_)
        have e : (6 * nI s) + nI (W - 1 - k - d) = nI (6 * s + (W - 1 - k - d)) := by
          rw [show 6 * nI s = nI (6 * s) from pk_mul 6 s, nI_add]
        rw [e, nI_clamp (by omega)]
        refine ⟨vp_in_nI (by omega) (by omega), ?_⟩
        have ed := hun (W - 1 - k - d) (by omega)
        refine step _ (hen _ (by omega)) (fun w hw => ?_)
        rw [ed]
        simp [q]
      · refine br_t (pk_sneg (by omega) (by omega)) ?_
        unfold wX_makeShift_126
        refine step 0 (ga_en0 hok) (fun w hw => ?_)
        rw [ga_l0 hw]
        simp [q]
end
section
variable {sN sC sW pP pD pE tc lV bU pL wH sE : Int32} {kd ox oy oz wd fo su rd dp nx en hS wO nO nW so ne io td tf tb : Nat → Int32} {vA cH mK cA sK : Nat → Int64}
theorem gm_shR11 {post : SX → Prop} {s x y W S B : Nat} {c : ga_C} {eo0 : Nat → Int32} (hs : s < 24) (hx : x < s) (hy : y < s) (hW : W ≤ 6) (h : ga_ok c S B)
    (hP : ∀ i, i < W → ga_en c (eo0 (6 * x + i))) (hQ : ∀ i, i < 2 → ga_en c (eo0 (6 * y + i))) (hr : S + B + 6 * W ≤ 355)
    (K : ∀ c' eo', mk_ok c c' eo0 eo' s S (B + 6 * W) W (fun w => vw_n w eo0 x W / 2 ^ (vw_n w eo0 y 2)) → post (sN, sC, sW, pP, pD, pE, c'.1, tc, lV, bU, pL, wH, sE, kd, ox, oy, oz, wd, fo, su, rd, dp, nx, en, hS, wO, nO, nW, c'.2.1, c'.2.2.1, c'.2.2.2.1, c'.2.2.2.2, eo', so, ne, io, td, tf, tb, vA, cH, mK, cA, sK)) :
    ∀ (n i : Nat) (eo : Nat → Int32), W < n + i → i ≤ W → fr_s s eo0 eo → (∀ j, j < i → eo (6 * s + j) = eo0 (6 * x + j)) → wX_makeShift_11 post (nI s) (nI x) (nI y) 0 (nI W) n (nI i) sN sC sW pP pD pE c.1 tc lV bU pL wH sE kd ox oy oz wd fo su rd dp nx en hS wO nO nW c.2.1 c.2.2.1 c.2.2.2.1 c.2.2.2.2 eo so ne io td tf tb vA cH mK cA sK := by
  intro n
  induction n with
  | zero => intro i eo h1 h2; omega
  | succ n ih =>
    intro i eo h1 h2 hfr hcp
    unfold wX_makeShift_11
    refine pk_le W i (fun hle => ?_) (fun hlt => ?_)
    · have e : i = W := by omega
      subst e
      have hen : ∀ j, j < i → ga_en c (eo (6 * s + j)) := fun j hj => by rw [hcp j hj]; exact hP j hj
      refine ⟨3, ?_⟩
      unfold wX_makeShift_46
      refine br_f (by decide) ?_
      refine gw_end (i := 0) (by omega) (by omega) ?_
      refine ⟨i + 1, gm_shR64 (st := 0) (d := 1) hs hW (by decide) (by decide) (by decide) (by rw [fr_x hfr hy (by omega)]; exact hQ 0 (by omega)) hen (B := B) (by omega) ?_ (i + 1) 0 c eo (by omega) (by omega) (ga_ex_r c) h (fr_r s eo) hen (fun _ _ => rfl) (fun w hw j hj hp => absurd hp (by omega))⟩
      intro c1 eo1 x1 x2 x3 x4 x5
      unfold wX_makeShift_46
      refine br_f (by decide) ?_
      refine gw_end (i := 1) (by omega) (by omega) ?_
      refine ⟨i + 1, gm_shR64 (st := 1) (d := 2) (c0 := c1) (eo0 := eo1) hs hW (by decide) (by decide) (by decide) (by rw [fr_x x3 hy (by omega), fr_x hfr hy (by omega)]; exact ga_en_e x1 (hQ 1 (by omega))) x4 (B := B + 3 * i) (by omega) ?_ (i + 1) 0 c1 eo1 (by omega) (by omega) (ga_ex_r c1) x2 (fr_r s eo1) x4 (fun _ _ => rfl) (fun w hw j hj hp => absurd hp (by omega))⟩
      intro c2 eo2 y1 y2 y3 y4 y5
      unfold wX_makeShift_46
      refine br_t (by decide) ?_
      refine K c2 eo2 ⟨ga_ex_t x1 y1, ga_mono y2 (Nat.le_refl _) (by omega), fun j hj => (y3 j hj).trans ((x3 j hj).trans (hfr j hj)), y4, fun w hw => ?_⟩
      have w1 := ga_con_e y1 hw
      have a0 : vw_n w eo s i = vw_n w eo0 x i := nb_cg i (fun j hj => by rw [hcp j hj])
      have b0 := x5 w w1
      have b1 := y5 w hw
      rw [fr_x hfr hy (by omega)] at b0
      rw [fr_x x3 hy (by omega), fr_x hfr hy (by omega)] at b1
      have e : vw_n w eo0 y 2 = (nb_lit w (eo0 (6 * y + 0))).toNat + 2 * (nb_lit w (eo0 (6 * y + 1))).toNat := vw_2
      show vw_n w eo2 s i = vw_n w eo0 x i / 2 ^ (vw_n w eo0 y 2)
      rw [e, ← a0]
      have s0 : vw_n w eo1 s i = if nb_lit w (eo0 (6 * y + 0)) = true then vw_n w eo s i / 2 ^ 1 else vw_n w eo s i := by
        cases q : nb_lit w (eo0 (6 * y + 0))
        · rw [q] at b0
          exact nb_cg i b0
        · rw [q] at b0
          exact rp_right (fun j hj => b0 j hj)
      have s1 : vw_n w eo2 s i = if nb_lit w (eo0 (6 * y + 1)) = true then vw_n w eo1 s i / 2 ^ 2 else vw_n w eo1 s i := by
        cases q : nb_lit w (eo0 (6 * y + 1))
        · rw [q] at b1
          exact nb_cg i b1
        · rw [q] at b1
          exact rp_right (fun j hj => b1 j hj)
      rw [s1, s0]
      have lt := nb_lt (fun j => nb_lit w (eo (6 * s + j))) i
      have lt' : vw_n w eo s i % 2 ^ i = vw_n w eo s i := Nat.mod_eq_of_lt lt
      cases nb_lit w (eo0 (6 * y + 0)) <;> cases nb_lit w (eo0 (6 * y + 1))
      · simp
      · simp
      · simp
      · exact rp_rr
    · have e : (6 * nI x) + nI i = nI (6 * x + i) := by
        rw [show 6 * nI x = nI (6 * x) from pk_mul 6 x, nI_add]
      rw [e, nI_clamp (by omega)]
      refine ⟨vp_in_nI (by omega) (by omega), ?_⟩
      rw [fr_x hfr hx (by omega)]
      refine gw_set hs (by omega) (hP i hlt) ?_
      intro y' ey'
      have e2 := ey'.trans (nI_1 i)
      subst e2
      refine ih (i + 1) (upd eo (6 * s + i) (eo0 (6 * x + i))) (by omega) (by omega) (fr_u hfr (by omega)) (fun j hj => ?_)
      by_cases q : j = i
      · rw [q, pk_us]
      · rw [up_j q]; exact hcp j (by omega)
variable {c : ga_C} {eo : Nat → Int32}
theorem gm_shR {post : SX → Prop} {s x y W S B : Nat} (hs : s < 24) (hx : x < s) (hy : y < s) (hW : W ≤ 6) (hwd : wd s = nI W) (h : ga_ok c S B)
    (hP : ∀ i, i < W → ga_en c (eo (6 * x + i))) (hQ : ∀ i, i < 2 → ga_en c (eo (6 * y + i))) (hr : S + B + 6 * W ≤ 355)
    (K : ∀ c' eo', mk_ok c c' eo eo' s S (B + 6 * W) W (fun w => vw_n w eo x W / 2 ^ (vw_n w eo y 2)) → post (sN, sC, sW, pP, pD, pE, c'.1, tc, lV, bU, pL, wH, sE, kd, ox, oy, oz, wd, fo, su, rd, dp, nx, en, hS, wO, nO, nW, c'.2.1, c'.2.2.1, c'.2.2.2.1, c'.2.2.2.2, eo', so, ne, io, td, tf, tb, vA, cH, mK, cA, sK)) : wpX_makeShift post (sN, sC, sW, pP, pD, pE, c.1, tc, lV, bU, pL, wH, sE, kd, ox, oy, oz, wd, fo, su, rd, dp, nx, en, hS, wO, nO, nW, c.2.1, c.2.2.1, c.2.2.2.1, c.2.2.2.2, eo, so, ne, io, td, tf, tb, vA, cH, mK, cA, sK) (nI s) (nI x) (nI y) 0 := by
  unfold wpX_makeShift
  refine ⟨vp_in_nI hs (by omega), ?_⟩
  intro y' ey'
  rw [nI_clamp (by omega), hwd] at ey'
  subst ey'
  exact ⟨W + 1, gm_shR11 hs hx hy hW h hP hQ hr K (W + 1) 0 eo (by omega) (by omega) (fr_r s eo) (fun j hj => absurd hj (by omega))⟩
end
section
variable {sN sC sW pP pD pE tc lV bU pL wH sE : Int32} {kd ox oy oz wd fo su rd dp nx en hS wO nO nW so ne io td tf tb : Nat → Int32} {vA cH mK cA sK : Nat → Int64}
theorem gm_shL11 {post : SX → Prop} {s x y W S B : Nat} {c : ga_C} {eo0 : Nat → Int32} (hs : s < 24) (hx : x < s) (hy : y < s) (hW : W ≤ 6) (h : ga_ok c S B)
    (hP : ∀ i, i < W → ga_en c (eo0 (6 * x + i))) (hQ : ∀ i, i < 2 → ga_en c (eo0 (6 * y + i))) (hr : S + B + 6 * W ≤ 355)
    (K : ∀ c' eo', mk_ok c c' eo0 eo' s S (B + 6 * W) W (fun w => vw_n w eo0 x W * 2 ^ (vw_n w eo0 y 2) % 2 ^ W) → post (sN, sC, sW, pP, pD, pE, c'.1, tc, lV, bU, pL, wH, sE, kd, ox, oy, oz, wd, fo, su, rd, dp, nx, en, hS, wO, nO, nW, c'.2.1, c'.2.2.1, c'.2.2.2.1, c'.2.2.2.2, eo', so, ne, io, td, tf, tb, vA, cH, mK, cA, sK)) :
    ∀ (n i : Nat) (eo : Nat → Int32), W < n + i → i ≤ W → fr_s s eo0 eo → (∀ j, j < i → eo (6 * s + j) = eo0 (6 * x + j)) → wX_makeShift_11 post (nI s) (nI x) (nI y) 1 (nI W) n (nI i) sN sC sW pP pD pE c.1 tc lV bU pL wH sE kd ox oy oz wd fo su rd dp nx en hS wO nO nW c.2.1 c.2.2.1 c.2.2.2.1 c.2.2.2.2 eo so ne io td tf tb vA cH mK cA sK := by
  intro n
  induction n with
  | zero => intro i eo h1 h2; omega
  | succ n ih =>
    intro i eo h1 h2 hfr hcp
    unfold wX_makeShift_11
    refine pk_le W i (fun hle => ?_) (fun hlt => ?_)
    · have e : i = W := by omega
      subst e
      have hen : ∀ j, j < i → ga_en c (eo (6 * s + j)) := fun j hj => by rw [hcp j hj]; exact hP j hj
      refine ⟨3, ?_⟩
      unfold wX_makeShift_46
      refine br_f (by decide) ?_
      refine gw_end (i := 0) (by omega) (by omega) ?_
      refine ⟨i + 1, gm_shL64 (st := 0) (d := 1) hs hW (by decide) (by decide) (by decide) (by rw [fr_x hfr hy (by omega)]; exact hQ 0 (by omega)) hen (B := B) (by omega) ?_ (i + 1) 0 c eo (by omega) (by omega) (ga_ex_r c) h (fr_r s eo) hen (fun _ _ => rfl) (fun w hw j hj hp => absurd hp (by omega))⟩
      intro c1 eo1 x1 x2 x3 x4 x5
      unfold wX_makeShift_46
      refine br_f (by decide) ?_
      refine gw_end (i := 1) (by omega) (by omega) ?_
      refine ⟨i + 1, gm_shL64 (st := 1) (d := 2) (c0 := c1) (eo0 := eo1) hs hW (by decide) (by decide) (by decide) (by rw [fr_x x3 hy (by omega), fr_x hfr hy (by omega)]; exact ga_en_e x1 (hQ 1 (by omega))) x4 (B := B + 3 * i) (by omega) ?_ (i + 1) 0 c1 eo1 (by omega) (by omega) (ga_ex_r c1) x2 (fr_r s eo1) x4 (fun _ _ => rfl) (fun w hw j hj hp => absurd hp (by omega))⟩
      intro c2 eo2 y1 y2 y3 y4 y5
      unfold wX_makeShift_46
      refine br_t (by decide) ?_
      refine K c2 eo2 ⟨ga_ex_t x1 y1, ga_mono y2 (Nat.le_refl _) (by omega), fun j hj => (y3 j hj).trans ((x3 j hj).trans (hfr j hj)), y4, fun w hw => ?_⟩
      have w1 := ga_con_e y1 hw
      have a0 : vw_n w eo s i = vw_n w eo0 x i := nb_cg i (fun j hj => by rw [hcp j hj])
      have b0 := x5 w w1
      have b1 := y5 w hw
      rw [fr_x hfr hy (by omega)] at b0
      rw [fr_x x3 hy (by omega), fr_x hfr hy (by omega)] at b1
      have e : vw_n w eo0 y 2 = (nb_lit w (eo0 (6 * y + 0))).toNat + 2 * (nb_lit w (eo0 (6 * y + 1))).toNat := vw_2
      show vw_n w eo2 s i = vw_n w eo0 x i * 2 ^ (vw_n w eo0 y 2) % 2 ^ i
      rw [e, ← a0]
      have s0 : vw_n w eo1 s i = if nb_lit w (eo0 (6 * y + 0)) = true then vw_n w eo s i * 2 ^ 1 % 2 ^ i else vw_n w eo s i := by
        cases q : nb_lit w (eo0 (6 * y + 0))
        · rw [q] at b0
          exact nb_cg i b0
        · rw [q] at b0
          exact rp_left (fun j hj => b0 j hj)
      have s1 : vw_n w eo2 s i = if nb_lit w (eo0 (6 * y + 1)) = true then vw_n w eo1 s i * 2 ^ 2 % 2 ^ i else vw_n w eo1 s i := by
        cases q : nb_lit w (eo0 (6 * y + 1))
        · rw [q] at b1
          exact nb_cg i b1
        · rw [q] at b1
          exact rp_left (fun j hj => b1 j hj)
      rw [s1, s0]
      have lt := nb_lt (fun j => nb_lit w (eo (6 * s + j))) i
      have lt' : vw_n w eo s i % 2 ^ i = vw_n w eo s i := Nat.mod_eq_of_lt lt
      cases nb_lit w (eo0 (6 * y + 0)) <;> cases nb_lit w (eo0 (6 * y + 1))
      · simp [lt']
      · simp
      · simp
      · exact rp_ll
    · have e : (6 * nI x) + nI i = nI (6 * x + i) := by
        rw [show 6 * nI x = nI (6 * x) from pk_mul 6 x, nI_add]
      rw [e, nI_clamp (by omega)]
      refine ⟨vp_in_nI (by omega) (by omega), ?_⟩
      rw [fr_x hfr hx (by omega)]
      refine gw_set hs (by omega) (hP i hlt) ?_
      intro y' ey'
      have e2 := ey'.trans (nI_1 i)
      subst e2
      refine ih (i + 1) (upd eo (6 * s + i) (eo0 (6 * x + i))) (by omega) (by omega) (fr_u hfr (by omega)) (fun j hj => ?_)
      by_cases q : j = i
      · rw [q, pk_us]
      · rw [up_j q]; exact hcp j (by omega)
variable {c : ga_C} {eo : Nat → Int32}
theorem gm_shL {post : SX → Prop} {s x y W S B : Nat} (hs : s < 24) (hx : x < s) (hy : y < s) (hW : W ≤ 6) (hwd : wd s = nI W) (h : ga_ok c S B)
    (hP : ∀ i, i < W → ga_en c (eo (6 * x + i))) (hQ : ∀ i, i < 2 → ga_en c (eo (6 * y + i))) (hr : S + B + 6 * W ≤ 355)
    (K : ∀ c' eo', mk_ok c c' eo eo' s S (B + 6 * W) W (fun w => vw_n w eo x W * 2 ^ (vw_n w eo y 2) % 2 ^ W) → post (sN, sC, sW, pP, pD, pE, c'.1, tc, lV, bU, pL, wH, sE, kd, ox, oy, oz, wd, fo, su, rd, dp, nx, en, hS, wO, nO, nW, c'.2.1, c'.2.2.1, c'.2.2.2.1, c'.2.2.2.2, eo', so, ne, io, td, tf, tb, vA, cH, mK, cA, sK)) : wpX_makeShift post (sN, sC, sW, pP, pD, pE, c.1, tc, lV, bU, pL, wH, sE, kd, ox, oy, oz, wd, fo, su, rd, dp, nx, en, hS, wO, nO, nW, c.2.1, c.2.2.1, c.2.2.2.1, c.2.2.2.2, eo, so, ne, io, td, tf, tb, vA, cH, mK, cA, sK) (nI s) (nI x) (nI y) 1 := by
  unfold wpX_makeShift
  refine ⟨vp_in_nI hs (by omega), ?_⟩
  intro y' ey'
  rw [nI_clamp (by omega), hwd] at ey'
  subst ey'
  exact ⟨W + 1, gm_shL11 hs hx hy hW h hP hQ hr K (W + 1) 0 eo (by omega) (by omega) (fr_r s eo) (fun j hj => absurd hj (by omega))⟩
end
end
section
/-! makers: bit by bit (not, and, or, xor, pick, join, part) -/
section
variable {sN sC sW pP pD pE tc lV bU pL wH sE : Int32} {kd ox oy oz wd fo su rd dp nx en hS wO nO nW so ne io td tf tb : Nat → Int32} {vA cH mK cA sK : Nat → Int64}
variable {c : ga_C} {eo : Nat → Int32}
theorem gm_115 {post : SX → Prop} {s i : Nat} {e : Int32} (hs : s < 24) (hi : i < 6) (he : ga_en c e) (k : post (sN, sC, sW, pP, pD, pE, c.1, tc, lV, bU, pL, wH, sE, kd, ox, oy, oz, wd, fo, su, rd, dp, nx, en, hS, wO, nO, nW, c.2.1, c.2.2.1, c.2.2.2.1, c.2.2.2.2, upd eo (6 * s + i) e, so, ne, io, td, tf, tb, vA, cH, mK, cA, sK)) : wX_makeBit_115 post (nI s) (nI i) e sN sC sW pP pD pE c.1 tc lV bU pL wH sE kd ox oy oz wd fo su rd dp nx en hS wO nO nW c.2.1 c.2.2.1 c.2.2.2.1 c.2.2.2.2 eo so ne io td tf tb vA cH mK cA sK := by
  unfold wX_makeBit_115
  exact gw_set hs hi he k
theorem gm_101 {post : SX → Prop} {s i : Nat} {e : Int32} (hs : s < 24) (hi : i < 6) (he : ga_en c e) (k : post (sN, sC, sW, pP, pD, pE, c.1, tc, lV, bU, pL, wH, sE, kd, ox, oy, oz, wd, fo, su, rd, dp, nx, en, hS, wO, nO, nW, c.2.1, c.2.2.1, c.2.2.2.1, c.2.2.2.2, upd eo (6 * s + i) e, so, ne, io, td, tf, tb, vA, cH, mK, cA, sK)) : wX_makeBit_101 post (nI s) (nI i) e sN sC sW pP pD pE c.1 tc lV bU pL wH sE kd ox oy oz wd fo su rd dp nx en hS wO nO nW c.2.1 c.2.2.1 c.2.2.2.1 c.2.2.2.2 eo so ne io td tf tb vA cH mK cA sK := by
  unfold wX_makeBit_101
  exact gm_115 hs hi he k
theorem gm_b16 {post : SX → Prop} {s i x y S B : Nat} (hs : s < 24) (hi : i < 6) (hx : x < 24) (hy : i + y < 6) (hox : ox s = nI x) (hoy : oy s = nI y) (h : ga_ok c S B) (hp : ga_en c (eo (6 * x + (i + y))))
    (K : ∀ e c', ga_ex c c' → ga_ok c' S B → ga_en c' e → (∀ w, ga_con c' w → nb_lit w e = nb_lit w (eo (6 * x + (i + y)))) → post (sN, sC, sW, pP, pD, pE, c'.1, tc, lV, bU, pL, wH, sE, kd, ox, oy, oz, wd, fo, su, rd, dp, nx, en, hS, wO, nO, nW, c'.2.1, c'.2.2.1, c'.2.2.2.1, c'.2.2.2.2, upd eo (6 * s + i) e, so, ne, io, td, tf, tb, vA, cH, mK, cA, sK)) : wpX_makeBit post (sN, sC, sW, pP, pD, pE, c.1, tc, lV, bU, pL, wH, sE, kd, ox, oy, oz, wd, fo, su, rd, dp, nx, en, hS, wO, nO, nW, c.2.1, c.2.2.1, c.2.2.2.1, c.2.2.2.2, eo, so, ne, io, td, tf, tb, vA, cH, mK, cA, sK) (nI s) (nI i) 16 := by
  have hin : vp_in (nI s) 24 := vp_in_nI hs (by omega)
  have hc : (nI s).toNatClampNeg = s := nI_clamp (by omega)
  unfold wpX_makeBit
  refine ⟨hin, ?_⟩
  intro a ea
  refine ⟨hin, ?_⟩
  intro b eb
  rw [hc, hox] at ea
  rw [hc, hoy] at eb
  subst ea eb
  refine br_t rfl ?_
  rw [nI_add]
  refine gw_end hx hy ?_
  exact gm_115 hs hi hp (K _ c (ga_ex_r c) h hp (fun w hw => rfl))
theorem gm_b3 {post : SX → Prop} {s i x S B : Nat} (hs : s < 24) (hi : i < 6) (hx : x < 24) (hox : ox s = nI x) (h : ga_ok c S B) (hp : ga_en c (eo (6 * x + i)))
    (K : ∀ e c', ga_ex c c' → ga_ok c' S B → ga_en c' e → (∀ w, ga_con c' w → nb_lit w e = !nb_lit w (eo (6 * x + i))) → post (sN, sC, sW, pP, pD, pE, c'.1, tc, lV, bU, pL, wH, sE, kd, ox, oy, oz, wd, fo, su, rd, dp, nx, en, hS, wO, nO, nW, c'.2.1, c'.2.2.1, c'.2.2.2.1, c'.2.2.2.2, upd eo (6 * s + i) e, so, ne, io, td, tf, tb, vA, cH, mK, cA, sK)) : wpX_makeBit post (sN, sC, sW, pP, pD, pE, c.1, tc, lV, bU, pL, wH, sE, kd, ox, oy, oz, wd, fo, su, rd, dp, nx, en, hS, wO, nO, nW, c.2.1, c.2.2.1, c.2.2.2.1, c.2.2.2.2, eo, so, ne, io, td, tf, tb, vA, cH, mK, cA, sK) (nI s) (nI i) 3 := by
  have hin : vp_in (nI s) 24 := vp_in_nI hs (by omega)
  have hc : (nI s).toNatClampNeg = s := nI_clamp (by omega)
  unfold wpX_makeBit
  refine ⟨hin, ?_⟩
  intro a ea
  refine ⟨hin, ?_⟩
  intro b eb
  rw [hc, hox] at ea
  subst ea
  refine br_f (by decide) (br_t rfl ?_)
  refine gw_end hx hi ?_
  intro y ey
  subst ey
  exact gm_115 hs hi (ga_enx hp) (K _ c (ga_ex_r c) h (ga_enx hp) (fun w hw => ga_lx hp w))
theorem gm_b15 {post : SX → Prop} {s i x y Wy S B : Nat} (hs : s < 24) (hi : i < 6) (hx : x < 24) (hy : y < 24) (hox : ox s = nI x) (hoy : oy s = nI y) (hwy : wd y = nI Wy) (hW : Wy ≤ 6) (h : ga_ok c S B)
    (hp : Wy ≤ i → ga_en c (eo (6 * x + (i - Wy)))) (hq : i < Wy → ga_en c (eo (6 * y + i)))
    (K : ∀ e c', ga_ex c c' → ga_ok c' S B → ga_en c' e → (∀ w, ga_con c' w → nb_lit w e = if i < Wy then nb_lit w (eo (6 * y + i)) else nb_lit w (eo (6 * x + (i - Wy)))) → post (sN, sC, sW, pP, pD, pE, c'.1, tc, lV, bU, pL, wH, sE, kd, ox, oy, oz, wd, fo, su, rd, dp, nx, en, hS, wO, nO, nW, c'.2.1, c'.2.2.1, c'.2.2.2.1, c'.2.2.2.2, upd eo (6 * s + i) e, so, ne, io, td, tf, tb, vA, cH, mK, cA, sK)) : wpX_makeBit post (sN, sC, sW, pP, pD, pE, c.1, tc, lV, bU, pL, wH, sE, kd, ox, oy, oz, wd, fo, su, rd, dp, nx, en, hS, wO, nO, nW, c.2.1, c.2.2.1, c.2.2.2.1, c.2.2.2.2, eo, so, ne, io, td, tf, tb, vA, cH, mK, cA, sK) (nI s) (nI i) 15 := by
  have hin : vp_in (nI s) 24 := vp_in_nI hs (by omega)
  have hiy : vp_in (nI y) 24 := vp_in_nI hy (by omega)
  have hc : (nI s).toNatClampNeg = s := nI_clamp (by omega)
  have hwy' : wd (nI y).toNatClampNeg = nI Wy := by rw [nI_clamp (by omega)]; exact hwy
  unfold wpX_makeBit
  refine ⟨hin, ?_⟩
  intro a ea
  refine ⟨hin, ?_⟩
  intro b eb
  rw [hc, hox] at ea
  rw [hc, hoy] at eb
  subst ea eb
  refine br_f (by decide) (br_f (by decide) (br_t rfl ⟨hiy, pk_le Wy i (fun q => ⟨hiy, ?_⟩) (fun q => ?_) hwy'⟩))
  · rw [hwy', pk_sub q]
    refine gw_end hx (by omega) ?_
    exact gm_101 hs hi (hp q) (K _ c (ga_ex_r c) h (hp q) (fun w hw => by rw [if_neg (by omega)]))
  · refine gw_end hy hi ?_
    exact gm_101 hs hi (hq q) (K _ c (ga_ex_r c) h (hq q) (fun w hw => by rw [if_pos q]))
theorem gm_b4 {post : SX → Prop} {s i x y S B : Nat} (hs : s < 24) (hi : i < 6) (hx : x < 24) (hy : y < 24) (hox : ox s = nI x) (hoy : oy s = nI y) (h : ga_ok c S B) (hp : ga_en c (eo (6 * x + i))) (hq : ga_en c (eo (6 * y + i))) (hr : S + B + 1 ≤ 355)
    (K : ∀ e c', ga_ex c c' → ga_ok c' S (B + 1) → ga_en c' e → (∀ w, ga_con c' w → nb_lit w e = (nb_lit w (eo (6 * x + i)) && nb_lit w (eo (6 * y + i)))) → post (sN, sC, sW, pP, pD, pE, c'.1, tc, lV, bU, pL, wH, sE, kd, ox, oy, oz, wd, fo, su, rd, dp, nx, en, hS, wO, nO, nW, c'.2.1, c'.2.2.1, c'.2.2.2.1, c'.2.2.2.2, upd eo (6 * s + i) e, so, ne, io, td, tf, tb, vA, cH, mK, cA, sK)) : wpX_makeBit post (sN, sC, sW, pP, pD, pE, c.1, tc, lV, bU, pL, wH, sE, kd, ox, oy, oz, wd, fo, su, rd, dp, nx, en, hS, wO, nO, nW, c.2.1, c.2.2.1, c.2.2.2.1, c.2.2.2.2, eo, so, ne, io, td, tf, tb, vA, cH, mK, cA, sK) (nI s) (nI i) 4 := by
  have hin : vp_in (nI s) 24 := vp_in_nI hs (by omega)
  have hc : (nI s).toNatClampNeg = s := nI_clamp (by omega)
  unfold wpX_makeBit
  refine ⟨hin, ?_⟩
  intro a ea
  refine ⟨hin, ?_⟩
  intro b eb
  refine br_f (by decide) (br_f (by decide) (br_f (by decide) ?_))
  unfold wpX_combined
  refine ⟨hin, br_f (by decide) ?_⟩
  unfold wX_combined_18
  rw [hc, hox, hoy]
  refine gw_end hx hi ?_
  refine ⟨hin, ?_⟩
  refine gw_end hy hi ?_
  refine br_t rfl ?_
  refine gw_and h hp hq hr ?_
  intro r c' z
  exact gm_115 hs hi z.2.2.1 (K r c' z.1 z.2.1 z.2.2.1 z.2.2.2)
theorem gm_b5 {post : SX → Prop} {s i x y S B : Nat} (hs : s < 24) (hi : i < 6) (hx : x < 24) (hy : y < 24) (hox : ox s = nI x) (hoy : oy s = nI y) (h : ga_ok c S B) (hp : ga_en c (eo (6 * x + i))) (hq : ga_en c (eo (6 * y + i))) (hr : S + B + 1 ≤ 355)
    (K : ∀ e c', ga_ex c c' → ga_ok c' S (B + 1) → ga_en c' e → (∀ w, ga_con c' w → nb_lit w e = (nb_lit w (eo (6 * x + i)) || nb_lit w (eo (6 * y + i)))) → post (sN, sC, sW, pP, pD, pE, c'.1, tc, lV, bU, pL, wH, sE, kd, ox, oy, oz, wd, fo, su, rd, dp, nx, en, hS, wO, nO, nW, c'.2.1, c'.2.2.1, c'.2.2.2.1, c'.2.2.2.2, upd eo (6 * s + i) e, so, ne, io, td, tf, tb, vA, cH, mK, cA, sK)) : wpX_makeBit post (sN, sC, sW, pP, pD, pE, c.1, tc, lV, bU, pL, wH, sE, kd, ox, oy, oz, wd, fo, su, rd, dp, nx, en, hS, wO, nO, nW, c.2.1, c.2.2.1, c.2.2.2.1, c.2.2.2.2, eo, so, ne, io, td, tf, tb, vA, cH, mK, cA, sK) (nI s) (nI i) 5 := by
  have hin : vp_in (nI s) 24 := vp_in_nI hs (by omega)
  have hc : (nI s).toNatClampNeg = s := nI_clamp (by omega)
  unfold wpX_makeBit
  refine ⟨hin, ?_⟩
  intro a ea
  refine ⟨hin, ?_⟩
  intro b eb
  refine br_f (by decide) (br_f (by decide) (br_f (by decide) ?_))
  unfold wpX_combined
  refine ⟨hin, br_f (by decide) ?_⟩
  unfold wX_combined_18
  rw [hc, hox, hoy]
  refine gw_end hx hi ?_
  refine ⟨hin, ?_⟩
  refine gw_end hy hi ?_
  refine br_f (by decide) (br_t rfl ?_)
  refine gw_or h hp hq hr ?_
  intro r c' z
  exact gm_115 hs hi z.2.2.1 (K r c' z.1 z.2.1 z.2.2.1 z.2.2.2)
theorem gm_b6 {post : SX → Prop} {s i x y S B : Nat} (hs : s < 24) (hi : i < 6) (hx : x < 24) (hy : y < 24) (hox : ox s = nI x) (hoy : oy s = nI y) (h : ga_ok c S B) (hp : ga_en c (eo (6 * x + i))) (hq : ga_en c (eo (6 * y + i))) (hr : S + B + 3 ≤ 355)
    (K : ∀ e c', ga_ex c c' → ga_ok c' S (B + 3) → ga_en c' e → (∀ w, ga_con c' w → nb_lit w e = (nb_lit w (eo (6 * x + i)) ^^ nb_lit w (eo (6 * y + i)))) → post (sN, sC, sW, pP, pD, pE, c'.1, tc, lV, bU, pL, wH, sE, kd, ox, oy, oz, wd, fo, su, rd, dp, nx, en, hS, wO, nO, nW, c'.2.1, c'.2.2.1, c'.2.2.2.1, c'.2.2.2.2, upd eo (6 * s + i) e, so, ne, io, td, tf, tb, vA, cH, mK, cA, sK)) : wpX_makeBit post (sN, sC, sW, pP, pD, pE, c.1, tc, lV, bU, pL, wH, sE, kd, ox, oy, oz, wd, fo, su, rd, dp, nx, en, hS, wO, nO, nW, c.2.1, c.2.2.1, c.2.2.2.1, c.2.2.2.2, eo, so, ne, io, td, tf, tb, vA, cH, mK, cA, sK) (nI s) (nI i) 6 := by
  have hin : vp_in (nI s) 24 := vp_in_nI hs (by omega)
  have hc : (nI s).toNatClampNeg = s := nI_clamp (by omega)
  unfold wpX_makeBit
  refine ⟨hin, ?_⟩
  intro a ea
  refine ⟨hin, ?_⟩
  intro b eb
  refine br_f (by decide) (br_f (by decide) (br_f (by decide) ?_))
  unfold wpX_combined
  refine ⟨hin, br_f (by decide) ?_⟩
  unfold wX_combined_18
  rw [hc, hox, hoy]
  refine gw_end hx hi ?_
  refine ⟨hin, ?_⟩
  refine gw_end hy hi ?_
  refine br_f (by decide) (br_f (by decide) (br_t rfl ?_))
  refine gw_xor h hp hq hr ?_
  intro r c' z
  exact gm_115 hs hi z.2.2.1 (K r c' z.1 z.2.1 z.2.2.1 z.2.2.2)
theorem gm_b12 {post : SX → Prop} {s i x y z S B : Nat} (hs : s < 24) (hi : i < 6) (hx : x < 24) (hy : y < 24) (hz : z < 24) (hox : ox s = nI x) (hoy : oy s = nI y) (hoz : oz s = nI z) (h : ga_ok c S B) (hp : ga_en c (eo (6 * x + 0))) (hq : ga_en c (eo (6 * y + i))) (hz' : ga_en c (eo (6 * z + i))) (hr : S + B + 3 ≤ 355)
    (K : ∀ e c', ga_ex c c' → ga_ok c' S (B + 3) → ga_en c' e → (∀ w, ga_con c' w → nb_lit w e = if nb_lit w (eo (6 * x + 0)) = true then nb_lit w (eo (6 * y + i)) else nb_lit w (eo (6 * z + i))) → post (sN, sC, sW, pP, pD, pE, c'.1, tc, lV, bU, pL, wH, sE, kd, ox, oy, oz, wd, fo, su, rd, dp, nx, en, hS, wO, nO, nW, c'.2.1, c'.2.2.1, c'.2.2.2.1, c'.2.2.2.2, upd eo (6 * s + i) e, so, ne, io, td, tf, tb, vA, cH, mK, cA, sK)) : wpX_makeBit post (sN, sC, sW, pP, pD, pE, c.1, tc, lV, bU, pL, wH, sE, kd, ox, oy, oz, wd, fo, su, rd, dp, nx, en, hS, wO, nO, nW, c.2.1, c.2.2.1, c.2.2.2.1, c.2.2.2.2, eo, so, ne, io, td, tf, tb, vA, cH, mK, cA, sK) (nI s) (nI i) 12 := by
  have hin : vp_in (nI s) 24 := vp_in_nI hs (by omega)
  have hc : (nI s).toNatClampNeg = s := nI_clamp (by omega)
  unfold wpX_makeBit
  refine ⟨hin, ?_⟩
  intro a ea
  refine ⟨hin, ?_⟩
  intro b eb
  refine br_f (by decide) (br_f (by decide) (br_f (by decide) ?_))
  unfold wpX_combined
  refine ⟨hin, br_t rfl ?_⟩
  unfold wX_combined_18
  rw [hc, hox, hoy, hoz]
  refine gw_end (i := 0) hx (by omega) ?_
  refine ⟨hin, ?_⟩
  refine gw_end hy hi ?_
  refine br_f (by decide) (br_f (by decide) (br_f (by decide) ?_))
  refine ⟨hin, ?_⟩
  refine gw_end hz hi ?_
  refine gw_pick h hp hq hz' hr ?_
  intro r c' q
  exact gm_115 hs hi q.2.2.1 (K r c' q.1 q.2.1 q.2.2.1 q.2.2.2)
end
section
variable {sN sC sW pP pD pE tc lV bU pL wH sE : Int32} {kd ox oy oz wd fo su rd dp nx en hS wO nO nW so ne io td tf tb : Nat → Int32} {vA cH mK cA sK : Nat → Int64}
theorem gm_190 {post : SX → Prop} {s W g S B : Nat} {kk : Int32} {bf : (Nat → Bool) → Nat → Bool} {c0 : ga_C} {eo0 : Nat → Int32} (hs : s < 24) (hW : W ≤ 6) (hwd : wd s = nI W)
    (hbit : ∀ (i : Nat) (c : ga_C) (eo : Nat → Int32), i < W → ga_ex c0 c → ga_ok c S (B + g * i) → fr_s s eo0 eo → ∀ P : SX → Prop, (∀ e c', ga_ex c c' → ga_ok c' S (B + g * i + g) → ga_en c' e → (∀ w, ga_con c' w → nb_lit w e = bf w i) → P (sN, sC, sW, pP, pD, pE, c'.1, tc, lV, bU, pL, wH, sE, kd, ox, oy, oz, wd, fo, su, rd, dp, nx, en, hS, wO, nO, nW, c'.2.1, c'.2.2.1, c'.2.2.2.1, c'.2.2.2.2, upd eo (6 * s + i) e, so, ne, io, td, tf, tb, vA, cH, mK, cA, sK)) → wpX_makeBit P (sN, sC, sW, pP, pD, pE, c.1, tc, lV, bU, pL, wH, sE, kd, ox, oy, oz, wd, fo, su, rd, dp, nx, en, hS, wO, nO, nW, c.2.1, c.2.2.1, c.2.2.2.1, c.2.2.2.2, eo, so, ne, io, td, tf, tb, vA, cH, mK, cA, sK) (nI s) (nI i) kk)
    (K : ∀ c' eo', mk_ok c0 c' eo0 eo' s S (B + g * W) W (fun w => nb_n (bf w) W) → post (sN, sC, sW, pP, pD, pE, c'.1, tc, lV, bU, pL, wH, sE, kd, ox, oy, oz, wd, fo, su, rd, dp, nx, en, hS, wO, nO, nW, c'.2.1, c'.2.2.1, c'.2.2.2.1, c'.2.2.2.2, eo', so, ne, io, td, tf, tb, vA, cH, mK, cA, sK)) :
    ∀ (n i : Nat) (c : ga_C) (eo : Nat → Int32), W < n + i → i ≤ W → ga_ex c0 c → ga_ok c S (B + g * i) → fr_s s eo0 eo → (∀ j, j < i → ga_en c (eo (6 * s + j))) → (∀ w, ga_con c w → ∀ j, j < i → nb_lit w (eo (6 * s + j)) = bf w j) →
      wX_makeSignal_190 post (nI s) kk n (nI i) sN sC sW pP pD pE c.1 tc lV bU pL wH sE kd ox oy oz wd fo su rd dp nx en hS wO nO nW c.2.1 c.2.2.1 c.2.2.2.1 c.2.2.2.2 eo so ne io td tf tb vA cH mK cA sK := by
  have hwd' : wd (nI s).toNatClampNeg = nI W := by rw [nI_clamp (by omega)]; exact hwd
  intro n
  induction n with
  | zero => intro i c eo h1 h2; omega
  | succ n ih =>
    intro i c eo h1 h2 hx0 hok hfr hen hI
    unfold wX_makeSignal_190
    refine ⟨vp_in_nI hs (by omega), pk_le W i (fun hle => ?_) (fun hlt => ?_) hwd'⟩
    · have e : i = W := by omega
      subst e
      exact K c eo ⟨hx0, hok, hfr, hen, fun w hw => nb_cg i (hI w hw)⟩
    · refine hbit i c eo hlt hx0 hok hfr _ ?_
      intro e c' x1 x2 x3 x4
      intro y' ey'
      have e2 := ey'.trans (nI_1 i)
      subst e2
      refine ih (i + 1) c' (upd eo (6 * s + i) e) (by omega) (by omega) (ga_ex_t hx0 x1) (by rw [Nat.mul_succ, ← Nat.add_assoc]; exact x2) (fr_u hfr (by omega)) (fr_en x1 hen x3) (fun w hw j hj => ?_)
      by_cases q : j = i
      · rw [q, pk_us]; exact x4 w hw
      · rw [up_j q]; exact hI w (ga_con_e x1 hw) j (by omega)
end
end
section
/-! what a signal is worked out to -/
abbrev cl_n (a : Nat → Int32) (s : Nat) : Nat := (a s).toNatClampNeg
def wk_f (k W p q r y wy : Nat) (mem : Nat → Nat) : Nat :=
  if k = 1 then y
  else if k = 3 then 2 ^ W - 1 - p
  else if k = 4 then p &&& q
  else if k = 5 then p ||| q
  else if k = 6 then p ^^^ q
  else if k = 7 then (p + q) % 2 ^ W
  else if k = 8 then (p + 2 ^ W - q) % 2 ^ W
  else if k = 9 then p * q % 2 ^ W
  else if k = 10 then (if p < q then 1 else 0)
  else if k = 11 then (if p = q then 1 else 0)
  else if k = 12 then (if p = 1 then q else r)
  else if k = 13 then p * 2 ^ (q % 4) % 2 ^ W
  else if k = 14 then p / 2 ^ (q % 4)
  else if k = 15 then p * 2 ^ wy + q
  else if k = 16 then p / 2 ^ y % 2 ^ W
  else if k = 17 then pc_n (fun i => p.testBit i) 6
  else mem (p % 4)
theorem wk_cg {k W p q r p' q' r' y wy : Nat} {mem mem' : Nat → Nat} (hk : k ≤ 18) (h0 : k ≠ 0) (h2 : k ≠ 2) (hp : 3 ≤ k → p = p') (hq : 4 ≤ k → k ≤ 15 → q = q') (hr : k = 12 → r = r') (hm : k = 18 → mem (p % 4) = mem' (p % 4)) :
    wk_f k W p q r y wy mem = wk_f k W p' q' r' y wy mem' := by
  have h : k = 1 ∨ k = 3 ∨ k = 4 ∨ k = 5 ∨ k = 6 ∨ k = 7 ∨ k = 8 ∨ k = 9 ∨ k = 10 ∨ k = 11 ∨ k = 12 ∨ k = 13 ∨ k = 14 ∨ k = 15 ∨ k = 16 ∨ k = 17 ∨ k = 18 := by omega
  rcases h with rfl | rfl | rfl | rfl | rfl | rfl | rfl | rfl | rfl | rfl | rfl | rfl | rfl | rfl | rfl | rfl | rfl
  · rfl
  · have e := hp (by decide); subst e; rfl
  · have e := hp (by decide); subst e; have e := hq (by decide) (by decide); subst e; rfl
  · have e := hp (by decide); subst e; have e := hq (by decide) (by decide); subst e; rfl
  · have e := hp (by decide); subst e; have e := hq (by decide) (by decide); subst e; rfl
  · have e := hp (by decide); subst e; have e := hq (by decide) (by decide); subst e; rfl
  · have e := hp (by decide); subst e; have e := hq (by decide) (by decide); subst e; rfl
  · have e := hp (by decide); subst e; have e := hq (by decide) (by decide); subst e; rfl
  · have e := hp (by decide); subst e; have e := hq (by decide) (by decide); subst e; rfl
  · have e := hp (by decide); subst e; have e := hq (by decide) (by decide); subst e; rfl
  · have e := hp (by decide); subst e; have e := hq (by decide) (by decide); subst e; have e := hr rfl; subst e; rfl
  · have e := hp (by decide); subst e; have e := hq (by decide) (by decide); subst e; rfl
  · have e := hp (by decide); subst e; have e := hq (by decide) (by decide); subst e; rfl
  · have e := hp (by decide); subst e; have e := hq (by decide) (by decide); subst e; rfl
  · have e := hp (by decide); subst e; rfl
  · have e := hp (by decide); subst e; rfl
  · have e := hp (by decide); subst e; exact hm rfl
/-- a signal's value if it is not forced -/
def us_f (kd ox oy oz wd : Nat → Int32) (st mem v : Nat → Nat) (s : Nat) : Nat :=
  if kd s = 0 ∨ kd s = 2 then st s else wk_f (cl_n kd s) (cl_n wd s) (v (cl_n ox s)) (v (cl_n oy s)) (v (cl_n oz s)) (cl_n oy s) (cl_n wd (cl_n oy s)) mem
def sp_f (kd ox oy oz wd fo : Nat → Int32) (st mem v : Nat → Nat) (s : Nat) : Nat :=
  if fo s = -1 then us_f kd ox oy oz wd st mem v s else cl_n fo s
def sl_s (N : Nat) (kd ox oy oz wd fo : Nat → Int32) (st mem v : Nat → Nat) : Prop := ∀ s, s < N → v s = sp_f kd ox oy oz wd fo st mem v s
def wc_p (k w wx wy wz y : Nat) : Prop := (k = 3 → w = wx) ∧ (4 ≤ k → k ≤ 9 → w = wx ∧ w = wy) ∧ (k = 10 ∨ k = 11 → w = 1 ∧ wx = wy) ∧ (k = 12 → wx = 1 ∧ w = wy ∧ w = wz) ∧ (k = 13 ∨ k = 14 → w = wx ∧ wy = 2) ∧ (k = 15 → w = wx + wy) ∧ (k = 16 → y + w ≤ wx) ∧ (k = 17 → w = 3) ∧ (k = 18 → w = 4 ∧ wx = 2)
def df_s (kd ox oy oz wd : Nat → Int32) (s : Nat) : Prop :=
  kd s = nI (cl_n kd s) ∧ cl_n kd s ≤ 18 ∧ wd s = nI (cl_n wd s) ∧ 1 ≤ cl_n wd s ∧ cl_n wd s ≤ 6 ∧
  (3 ≤ cl_n kd s → ox s = nI (cl_n ox s) ∧ cl_n ox s < s) ∧
  (4 ≤ cl_n kd s → cl_n kd s ≤ 15 → oy s = nI (cl_n oy s) ∧ cl_n oy s < s) ∧
  (cl_n kd s = 12 → oz s = nI (cl_n oz s) ∧ cl_n oz s < s) ∧
  (cl_n kd s = 1 ∨ cl_n kd s = 2 → oy s = nI (cl_n oy s) ∧ cl_n oy s < 2 ^ cl_n wd s) ∧
  (cl_n kd s = 16 → oy s = nI (cl_n oy s)) ∧
  wc_p (cl_n kd s) (cl_n wd s) (cl_n wd (cl_n ox s)) (cl_n wd (cl_n oy s)) (cl_n wd (cl_n oz s)) (cl_n oy s)
theorem df_k {kd ox oy oz wd : Nat → Int32} {s : Nat} (h : df_s kd ox oy oz wd s) {k : Nat} (hk : k < 2 ^ 31) : kd s = nI k ↔ cl_n kd s = k := by
  rw [h.1, nI_eq (by have := h.2.1; omega) hk]
theorem us_cg {kd ox oy oz wd : Nat → Int32} {st mem v st' mem' v' : Nat → Nat} {s : Nat} (h : df_s kd ox oy oz wd s) (hst : kd s = 0 ∨ kd s = 2 → st s = st' s) (hm : cl_n kd s = 18 → ∀ p, p < 4 → mem p = mem' p)
    (hx : 3 ≤ cl_n kd s → v (cl_n ox s) = v' (cl_n ox s)) (hy : 4 ≤ cl_n kd s → cl_n kd s ≤ 15 → v (cl_n oy s) = v' (cl_n oy s)) (hz : cl_n kd s = 12 → v (cl_n oz s) = v' (cl_n oz s)) :
    us_f kd ox oy oz wd st mem v s = us_f kd ox oy oz wd st' mem' v' s := by
  unfold us_f
  by_cases q : kd s = 0 ∨ kd s = 2
  · rw [if_pos q, if_pos q]; exact hst q
  · rw [if_neg q, if_neg q]
    have n0 : cl_n kd s ≠ 0 := fun z => q (Or.inl ((df_k h (k := 0) (by decide)).mpr z))
    have n2 : cl_n kd s ≠ 2 := fun z => q (Or.inr ((df_k h (k := 2) (by decide)).mpr z))
    exact wk_cg h.2.1 n0 n2 hx hy hz (fun z => hm z _ (Nat.mod_lt _ (by decide)))
theorem sp_cg {kd ox oy oz wd fo : Nat → Int32} {st mem v st' mem' v' : Nat → Nat} {s : Nat} (h : df_s kd ox oy oz wd s) (hst : kd s = 0 ∨ kd s = 2 → st s = st' s) (hm : cl_n kd s = 18 → ∀ p, p < 4 → mem p = mem' p)
    (hx : 3 ≤ cl_n kd s → v (cl_n ox s) = v' (cl_n ox s)) (hy : 4 ≤ cl_n kd s → cl_n kd s ≤ 15 → v (cl_n oy s) = v' (cl_n oy s)) (hz : cl_n kd s = 12 → v (cl_n oz s) = v' (cl_n oz s)) :
    sp_f kd ox oy oz wd fo st mem v s = sp_f kd ox oy oz wd fo st' mem' v' s := by
  unfold sp_f
  rw [us_cg h hst hm hx hy hz]
/-- the values that follow are unique -/
theorem sl_u {N : Nat} {kd ox oy oz wd fo : Nat → Int32} {st mem v st' mem' v' : Nat → Nat} (hd : ∀ s, s < N → df_s kd ox oy oz wd s) (hst : ∀ s, s < N → kd s = 0 ∨ kd s = 2 → st s = st' s) (hm : ∀ p, p < 4 → mem p = mem' p)
    (h : sl_s N kd ox oy oz wd fo st mem v) (h' : sl_s N kd ox oy oz wd fo st' mem' v') : ∀ s, s < N → v s = v' s := by
  have key : ∀ m s, s < m → s < N → v s = v' s := by
    intro m
    induction m with
    | zero => intro s h1; omega
    | succ m ih =>
      intro s h1 h2
      have d := hd s h2
      rw [h s h2, h' s h2]
      exact sp_cg d (hst s h2) (fun _ => hm) (fun z => ih _ (by have := (d.2.2.2.2.2.1 z).2; omega) (by have := (d.2.2.2.2.2.1 z).2; omega)) (fun z z2 => ih _ (by have := (d.2.2.2.2.2.2.1 z z2).2; omega) (by have := (d.2.2.2.2.2.2.1 z z2).2; omega)) (fun z => ih _ (by have := (d.2.2.2.2.2.2.2.1 z).2; omega) (by have := (d.2.2.2.2.2.2.2.1 z).2; omega))
  exact fun s hs => key (s + 1) s (by omega) hs
/-- what gates and sources a signal costs -/
def hd_c (k w : Nat) : Nat := if k = 0 ∨ k = 2 then w else 0
def gc_c (k w wx : Nat) : Nat :=
  if k = 6 ∨ k = 12 then 3 * w else if k = 4 ∨ k = 5 then w else if k = 7 ∨ k = 8 then 9 * w else if k = 9 then 10 * w * w else if k = 10 then 8 * wx else if k = 11 then 4 * wx else if k = 13 ∨ k = 14 then 6 * w else if k = 17 then 12 * wx else if k = 18 then 40 else 0
def nc_c (k w : Nat) : Nat := if k = 2 then 3 * w else 0
def stw_n (w : Nat → Bool) (so : Nat → Int32) (fv : Nat → Bool) (wd : Nat → Int32) (s : Nat) : Nat := nb_n (fun i => sg_w w so fv (6 * s + i)) (cl_n wd s)
def mew_n (w : Nat → Bool) (so : Nat → Int32) (fv : Nat → Bool) (p : Nat) : Nat := nb_n (fun i => sg_w w so fv (144 + 4 * p + i)) 4
/-- the live state bits among the first s signals, and the memory's -/
def lv_b (kd wd : Nat → Int32) (s b : Nat) : Prop := 144 ≤ b ∨ (b / 6 < s ∧ b % 6 < cl_n wd (b / 6) ∧ (kd (b / 6) = 0 ∨ kd (b / 6) = 2))
def so_s (kd wd so : Nat → Int32) (sK : Nat → Int64) (s : Nat) : Prop := ∀ b, b < 160 → (lv_b kd wd s b → (so b = -1 ↔ st_b sK b = true)) ∧ (¬ lv_b kd wd s b → so b = -1)
theorem sg_cg {w : Nat → Bool} {so so' : Nat → Int32} {fv : Nat → Bool} {b : Nat} (h : so' b = so b) : sg_w w so' fv b = sg_w w so fv b := by
  unfold sg_w
  rw [h]
end
section
/-! makers: sources and constants -/
section
variable {sN sC sW pP pD pE tc lV bU pL wH sE : Int32} {kd ox oy oz wd fo su rd dp nx en hS wO nO nW ne io td tf tb : Nat → Int32} {vA cH mK cA sK : Nat → Int64}
theorem gm_src65 {post : SX → Prop} {J2 : Int32 → Int32 → Int32 → Int32 → Int32 → Int32 → Int32 → Int32 → Int32 → Int32 → Int32 → Int32 → Int32 → Int32 → (Nat → Int32) → (Nat → Int32) → (Nat → Int32) → (Nat → Int32) → (Nat → Int32) → (Nat → Int32) → (Nat → Int32) → (Nat → Int32) → (Nat → Int32) → (Nat → Int32) → (Nat → Int32) → (Nat → Int32) → (Nat → Int32) → (Nat → Int32) → (Nat → Int32) → (Nat → Int32) → (Nat → Int32) → (Nat → Int32) → (Nat → Int32) → (Nat → Int32) → (Nat → Int32) → (Nat → Int32) → (Nat → Int32) → (Nat → Int32) → (Nat → Int32) → (Nat → Int32) → (Nat → Int64) → (Nat → Int64) → (Nat → Int64) → (Nat → Int64) → (Nat → Int64) → Prop} {x2 e : Int32} {s i : Nat} {c : ga_C} {eo so : Nat → Int32} (hs : s < 24) (hi : i < 6) (he : ga_en c e) (K : J2 (nI (i + 1)) sN sC sW pP pD pE c.1 tc lV bU pL wH sE kd ox oy oz wd fo su rd dp nx en hS wO nO nW c.2.1 c.2.2.1 c.2.2.2.1 c.2.2.2.2 (upd eo (6 * s + i) e) so ne io td tf tb vA cH mK cA sK) : wX_makeSource_65 post J2 (nI s) x2 (nI i) e sN sC sW pP pD pE c.1 tc lV bU pL wH sE kd ox oy oz wd fo su rd dp nx en hS wO nO nW c.2.1 c.2.2.1 c.2.2.2.1 c.2.2.2.2 eo so ne io td tf tb vA cH mK cA sK := by
  unfold wX_makeSource_65
  refine gw_set hs hi he ?_
  intro y' ey'
  have e2 := ey'.trans (nI_1 i)
  subst e2
  exact K
theorem gm_const2 {post : SX → Prop} {s W y S B : Nat} {c : ga_C} {eo0 so : Nat → Int32} (hs : s < 24) (hW : W ≤ 6) (hwd : wd s = nI W) (hoy : oy s = nI y) (hy : y < 2 ^ W) (h : ga_ok c S B)
    (K : ∀ c' eo', mk_ok c c' eo0 eo' s S B W (fun _ => y) → post (sN, sC, sW, pP, pD, pE, c'.1, tc, lV, bU, pL, wH, sE, kd, ox, oy, oz, wd, fo, su, rd, dp, nx, en, hS, wO, nO, nW, c'.2.1, c'.2.2.1, c'.2.2.2.1, c'.2.2.2.2, eo', so, ne, io, td, tf, tb, vA, cH, mK, cA, sK)) :
    ∀ (n i : Nat) (eo : Nat → Int32), W < n + i → i ≤ W → fr_s s eo0 eo → (∀ j, j < i → eo (6 * s + j) = nI (y.testBit j).toNat) → wX_makeSource_2 post (nI s) 1 n (nI i) sN sC sW pP pD pE c.1 tc lV bU pL wH sE kd ox oy oz wd fo su rd dp nx en hS wO nO nW c.2.1 c.2.2.1 c.2.2.2.1 c.2.2.2.2 eo so ne io td tf tb vA cH mK cA sK := by
  have hin : vp_in (nI s) 24 := vp_in_nI hs (by omega)
  have hc : (nI s).toNatClampNeg = s := nI_clamp (by omega)
  have hwd' : wd (nI s).toNatClampNeg = nI W := by rw [nI_clamp (by omega)]; exact hwd
  have hy6 : y < 2 ^ 31 := Nat.lt_of_lt_of_le hy (Nat.pow_le_pow_right (by decide) (by omega))
  intro n
  induction n with
  | zero => intro i eo h1 h2; omega
  | succ n ih =>
    intro i eo h1 h2 hfr hI
    unfold wX_makeSource_2
    refine ⟨hin, pk_le W i (fun hle => ?_) (fun hlt => ?_) hwd'⟩
    · have e : i = W := by omega
      subst e
      refine K c eo ⟨ga_ex_r c, h, hfr, fun j hj => by rw [hI j hj]; exact ga_enB h _, fun w hw => nb_eq hy (fun j hj => ?_)⟩
      show nb_lit w (eo (6 * s + j)) = _
      rw [hI j hj, ga_lB hw]
    · refine br_t rfl ⟨hin, ?_⟩
      rw [hc, hoy, bx_sh hy6 (by omega)]
      unfold wX_makeSource_40
      refine br_t rfl ?_
      refine gm_src65 hs (by omega) (ga_enB h _) ?_
      refine ih (i + 1) (upd eo (6 * s + i) (nI (y.testBit i).toNat)) (by omega) (by omega) (fr_u hfr (by omega)) (fun j hj => ?_)
      by_cases q : j = i
      · rw [q, pk_us]
      · rw [up_j q]; exact hI j (by omega)
theorem gm_state2 {post : SX → Prop} {s W S B : Nat} {kk : Int32} {fv : Nat → Bool} {c0 : ga_C} {eo0 so0 : Nat → Int32} (hs : s < 24) (hW : W ≤ 6) (hwd : wd s = nI W) (hkk : ¬ kk = 1) (hv : sv_ok hS wO) (hfv : ∀ b, b < 160 → st_b sK b = true → fv b = sv_b hS wO b)
    (h0 : ∀ j, j < 6 → so0 (6 * s + j) = -1) (hr : S + W + B ≤ 355)
    (K : ∀ c' eo' so', ga_ex c0 c' → ga_ok c' (S + W) B → so_ok c' so' → fr_s s eo0 eo' → (∀ b, (b < 6 * s ∨ 6 * s + W ≤ b) → so' b = so0 b) → (∀ j, j < W → (so' (6 * s + j) = -1 ↔ st_b sK (6 * s + j) = true)) → (∀ i, i < W → ga_en c' (eo' (6 * s + i))) → (∀ w, ga_con c' w → ∀ i, i < W → nb_lit w (eo' (6 * s + i)) = sg_w w so' fv (6 * s + i)) → post (sN, sC, sW, pP, pD, pE, c'.1, tc, lV, bU, pL, wH, sE, kd, ox, oy, oz, wd, fo, su, rd, dp, nx, en, hS, wO, nO, nW, c'.2.1, c'.2.2.1, c'.2.2.2.1, c'.2.2.2.2, eo', so', ne, io, td, tf, tb, vA, cH, mK, cA, sK)) :
    ∀ (n i : Nat) (c : ga_C) (eo so : Nat → Int32), W < n + i → i ≤ W → ga_ex c0 c → ga_ok c (S + i) B → so_ok c so → fr_s s eo0 eo → (∀ b, (b < 6 * s ∨ 6 * s + i ≤ b) → so b = so0 b) → (∀ j, j < i → (so (6 * s + j) = -1 ↔ st_b sK (6 * s + j) = true)) → (∀ j, j < i → ga_en c (eo (6 * s + j))) → (∀ w, ga_con c w → ∀ j, j < i → nb_lit w (eo (6 * s + j)) = sg_w w so fv (6 * s + j)) →
      wX_makeSource_2 post (nI s) kk n (nI i) sN sC sW pP pD pE c.1 tc lV bU pL wH sE kd ox oy oz wd fo su rd dp nx en hS wO nO nW c.2.1 c.2.2.1 c.2.2.2.1 c.2.2.2.2 eo so ne io td tf tb vA cH mK cA sK := by
  have hin : vp_in (nI s) 24 := vp_in_nI hs (by omega)
  have hc : (nI s).toNatClampNeg = s := nI_clamp (by omega)
  have hwd' : wd (nI s).toNatClampNeg = nI W := by rw [nI_clamp (by omega)]; exact hwd
  obtain ⟨hh, eh, lh⟩ := hv.1 s hs
  intro n
  induction n with
  | zero => intro i c eo so h1 h2; omega
  | succ n ih =>
    intro i c eo so h1 h2 hx0 hok hso hfr hun hst hen hI
    unfold wX_makeSource_2
    refine ⟨hin, pk_le W i (fun hle => ?_) (fun hlt => ?_) hwd'⟩
    · have e : i = W := by omega
      subst e
      exact K c eo so hx0 hok hso hfr hun hst hen hI
    · refine br_f hkk ⟨hin, ?_⟩
      rw [hc, eh, bx_sh (by omega) (by omega)]
      unfold wX_makeSource_40
      refine br_f hkk ?_
      have e : (6 * nI s) + nI i = nI (6 * s + i) := by
        rw [show 6 * nI s = nI (6 * s) from pk_mul 6 s, nI_add]
      rw [e]
      refine gw_sourceEnd (fv := fv) (by omega) hok (by omega) hso (by rw [hun _ (Or.inr (by omega))]; exact h0 i (by omega)) (fun z => ?_) ?_
      · rw [hfv _ (by omega) z]
        unfold sv_b
        rw [if_pos (by omega), show (6 * s + i) / 6 = s from by omega, show (6 * s + i) % 6 = i from by omega, eh, nI_clamp (by omega)]
      · intro e1 c' so' x1 x2 x3 x4 x5 x6 x7
        refine gm_src65 hs (by omega) x6 ?_
        refine ih (i + 1) c' (upd eo (6 * s + i) e1) so' (by omega) (by omega) (ga_ex_t hx0 x1) x2 x3 (fr_u hfr (by omega)) (fun b hb => (x4 b (by omega)).trans (hun b (by omega))) (fun j hj => ?_) (fr_en x1 hen x6) (fun w hw j hj => ?_)
        · by_cases q : j = i
          · rw [q]; exact x5
          · rw [x4 _ (by omega)]; exact hst j (by omega)
        · by_cases q : j = i
          · rw [q, pk_us]; exact x7 w hw
          · rw [up_j q, sg_cg (x4 _ (by omega))]
            exact hI w (ga_con_e x1 hw) j (by omega)
variable {c : ga_C} {eo so : Nat → Int32}
theorem gm_const {post : SX → Prop} {s W y S B : Nat} (hs : s < 24) (hW : W ≤ 6) (hwd : wd s = nI W) (hoy : oy s = nI y) (hy : y < 2 ^ W) (h : ga_ok c S B)
    (K : ∀ c' eo', mk_ok c c' eo eo' s S B W (fun _ => y) → post (sN, sC, sW, pP, pD, pE, c'.1, tc, lV, bU, pL, wH, sE, kd, ox, oy, oz, wd, fo, su, rd, dp, nx, en, hS, wO, nO, nW, c'.2.1, c'.2.2.1, c'.2.2.2.1, c'.2.2.2.2, eo', so, ne, io, td, tf, tb, vA, cH, mK, cA, sK)) : wpX_makeSource post (sN, sC, sW, pP, pD, pE, c.1, tc, lV, bU, pL, wH, sE, kd, ox, oy, oz, wd, fo, su, rd, dp, nx, en, hS, wO, nO, nW, c.2.1, c.2.2.1, c.2.2.2.1, c.2.2.2.2, eo, so, ne, io, td, tf, tb, vA, cH, mK, cA, sK) (nI s) 1 := by
  unfold wpX_makeSource
  exact ⟨W + 1, gm_const2 hs hW hwd hoy hy h K (W + 1) 0 eo (by omega) (by omega) (fr_r s eo) (fun j hj => absurd hj (by omega))⟩
theorem gm_state {post : SX → Prop} {s W S B : Nat} {kk : Int32} {fv : Nat → Bool} (hs : s < 24) (hW : W ≤ 6) (hwd : wd s = nI W) (hkk : ¬ kk = 1) (hv : sv_ok hS wO) (hfv : ∀ b, b < 160 → st_b sK b = true → fv b = sv_b hS wO b)
    (h : ga_ok c S B) (hso : so_ok c so) (h0 : ∀ j, j < 6 → so (6 * s + j) = -1) (hr : S + W + B ≤ 355)
    (K : ∀ c' eo' so', ga_ex c c' → ga_ok c' (S + W) B → so_ok c' so' → fr_s s eo eo' → (∀ b, (b < 6 * s ∨ 6 * s + W ≤ b) → so' b = so b) → (∀ j, j < W → (so' (6 * s + j) = -1 ↔ st_b sK (6 * s + j) = true)) → (∀ i, i < W → ga_en c' (eo' (6 * s + i))) → (∀ w, ga_con c' w → ∀ i, i < W → nb_lit w (eo' (6 * s + i)) = sg_w w so' fv (6 * s + i)) → post (sN, sC, sW, pP, pD, pE, c'.1, tc, lV, bU, pL, wH, sE, kd, ox, oy, oz, wd, fo, su, rd, dp, nx, en, hS, wO, nO, nW, c'.2.1, c'.2.2.1, c'.2.2.2.1, c'.2.2.2.2, eo', so', ne, io, td, tf, tb, vA, cH, mK, cA, sK)) :
    wpX_makeSource post (sN, sC, sW, pP, pD, pE, c.1, tc, lV, bU, pL, wH, sE, kd, ox, oy, oz, wd, fo, su, rd, dp, nx, en, hS, wO, nO, nW, c.2.1, c.2.2.1, c.2.2.2.1, c.2.2.2.2, eo, so, ne, io, td, tf, tb, vA, cH, mK, cA, sK) (nI s) kk := by
  unfold wpX_makeSource
  exact ⟨W + 1, gm_state2 hs hW hwd hkk hv hfv h0 hr K (W + 1) 0 c eo so (by omega) (by omega) (ga_ex_r c) h hso (fr_r s eo) (fun _ _ => rfl) (fun j hj => absurd hj (by omega)) (fun j hj => absurd hj (by omega)) (fun w hw j hj => absurd hj (by omega))⟩
end
end
section
/-! makeSignal -/
theorem us_k {kd ox oy oz wd : Nat → Int32} {st mem v : Nat → Nat} {s k : Nat} (d : df_s kd ox oy oz wd s) (hk : cl_n kd s = k) (h0 : k ≠ 0) (h2 : k ≠ 2) :
    us_f kd ox oy oz wd st mem v s = wk_f k (cl_n wd s) (v (cl_n ox s)) (v (cl_n oy s)) (v (cl_n oz s)) (cl_n oy s) (cl_n wd (cl_n oy s)) mem := by
  unfold us_f
  rw [if_neg, hk]
  rintro (z | z)
  · exact h0 (hk.symm.trans ((df_k d (k := 0) (by decide)).mp z))
  · exact h2 (hk.symm.trans ((df_k d (k := 2) (by decide)).mp z))
theorem us_st {kd ox oy oz wd : Nat → Int32} {st mem v : Nat → Nat} {s : Nat} (h : kd s = 0 ∨ kd s = 2) : us_f kd ox oy oz wd st mem v s = st s := if_pos h
theorem vl_and (P Q : Nat → Bool) (W : Nat) : nb_n (fun i => P i && Q i) W = nb_n P W &&& nb_n Q W := by
  apply Nat.eq_of_testBit_eq
  intro i
  rw [Nat.testBit_and, nb_tb, nb_tb, nb_tb]
  by_cases h : i < W <;> simp [h]
theorem vl_or (P Q : Nat → Bool) (W : Nat) : nb_n (fun i => P i || Q i) W = nb_n P W ||| nb_n Q W := by
  apply Nat.eq_of_testBit_eq
  intro i
  rw [Nat.testBit_or, nb_tb, nb_tb, nb_tb]
  by_cases h : i < W <;> simp [h]
theorem vl_xor (P Q : Nat → Bool) (W : Nat) : nb_n (fun i => P i ^^ Q i) W = nb_n P W ^^^ nb_n Q W := by
  apply Nat.eq_of_testBit_eq
  intro i
  rw [Nat.testBit_xor, nb_tb, nb_tb, nb_tb]
  by_cases h : i < W <;> simp [h]
theorem vl_not (P : Nat → Bool) (W : Nat) : nb_n (fun i => !P i) W = 2 ^ W - 1 - nb_n P W := by
  have := nb_not P W
  omega
theorem vl_pick (X P Q : Nat → Bool) (W : Nat) : nb_n (fun i => if X 0 = true then P i else Q i) W = if nb_n X 1 = 1 then nb_n P W else nb_n Q W := by
  have e : nb_n X 1 = (X 0).toNat := by show 0 + _ * 2 ^ 0 = _; simp
  rw [e]
  cases X 0 <;> simp
theorem vl_join (P Q : Nat → Bool) (W V : Nat) : nb_n (fun i => if i < V then Q i else P (i - V)) (W + V) = nb_n P W * 2 ^ V + nb_n Q V := by
  have p := nb_lt P W
  have q := nb_lt Q V
  refine nb_eq ?_ (fun i hi => ?_)
  · rw [Nat.pow_add]
    have : (nb_n P W + 1) * 2 ^ V ≤ 2 ^ W * 2 ^ V := Nat.mul_le_mul_right _ p
    rw [Nat.add_mul, Nat.one_mul] at this
    omega
  · rw [Nat.mul_comm, Nat.testBit_two_pow_mul_add _ q, nb_tb, nb_tb]
    by_cases h : i < V
    · simp [h]
    · have h2 : i - V < W := by omega
      simp [h, h2]
theorem vl_part (P : Nat → Bool) (W V y : Nat) (h : y + W ≤ V) : nb_n (fun i => P (i + y)) W = nb_n P V / 2 ^ y % 2 ^ W := by
  refine nb_eq (Nat.mod_lt _ (Nat.two_pow_pos W)) (fun i hi => ?_)
  rw [Nat.testBit_mod_two_pow, Nat.testBit_div_two_pow, nb_tb]
  have h2 : i + y < V := by omega
  simp [hi, h2]
theorem vl_pc (P : Nat → Bool) (W : Nat) (h : W ≤ 6) : pc_n P W = pc_n (fun i => (nb_n P W).testBit i) 6 := by
  rw [pc_ext (fun i => (nb_n P W).testBit i) 6 h (fun i h1 h2 => ?_)]
  · exact pc_cg W (fun i hi => by rw [nb_tb]; simp [hi])
  · show (nb_n P W).testBit i = false
    rw [nb_tb]
    have : ¬ i < W := by omega
    simp [this]
theorem so_sN {kd wd so : Nat → Int32} {sK : Nat → Int64} {s : Nat} (h : so_s kd wd so sK s) (hk : ¬ (kd s = 0 ∨ kd s = 2)) : so_s kd wd so sK (s + 1) := by
  intro b hb
  have e : lv_b kd wd (s + 1) b ↔ lv_b kd wd s b := by
    constructor
    · rintro (z | ⟨z1, z2, z3⟩)
      · exact Or.inl z
      · by_cases q : b / 6 = s
        · rw [q] at z3
          exact absurd z3 hk
        · exact Or.inr ⟨by omega, z2, z3⟩
    · rintro (z | ⟨z1, z2, z3⟩)
      · exact Or.inl z
      · exact Or.inr ⟨by omega, z2, z3⟩
  rw [e]
  exact h b hb
theorem so_sS {kd wd so so' : Nat → Int32} {sK : Nat → Int64} {s W : Nat} (h : so_s kd wd so sK s) (hk : kd s = 0 ∨ kd s = 2) (hW : cl_n wd s = W) (hW6 : W ≤ 6) (hun : ∀ b, (b < 6 * s ∨ 6 * s + W ≤ b) → so' b = so b) (hst : ∀ j, j < W → (so' (6 * s + j) = -1 ↔ st_b sK (6 * s + j) = true)) : so_s kd wd so' sK (s + 1) := by
  intro b hb
  by_cases q : b < 6 * s ∨ 6 * s + W ≤ b
  · rw [hun b q]
    have e : lv_b kd wd (s + 1) b ↔ lv_b kd wd s b := by
      constructor
      · rintro (z | ⟨z1, z2, z3⟩)
        · exact Or.inl z
        · by_cases q2 : b / 6 = s
          · rw [q2, hW] at z2
            omega
          · exact Or.inr ⟨by omega, z2, z3⟩
      · rintro (z | ⟨z1, z2, z3⟩)
        · exact Or.inl z
        · exact Or.inr ⟨by omega, z2, z3⟩
    rw [e]
    exact h b hb
  · have hb2 : 6 * s + (b - 6 * s) = b := by omega
    have z := hst (b - 6 * s) (by omega)
    rw [hb2] at z
    have e6 : b / 6 = s := by omega
    refine ⟨fun _ => z, fun n => absurd ?_ n⟩
    exact Or.inr ⟨by omega, by rw [e6, hW]; omega, by rw [e6]; exact hk⟩
section
variable {sN sC sW pP pD pE tc lV bU pL wH sE : Int32} {kd ox oy oz wd fo su rd dp nx en hS wO nO nW ne io td tf tb : Nat → Int32} {vA cH mK cA sK : Nat → Int64}
variable {c : ga_C} {eo so : Nat → Int32}
theorem gm_signal {post : SX → Prop} {s S B : Nat} {fv : Nat → Bool} (hs : s < 24) (hd : ∀ t, t ≤ s → df_s kd ox oy oz wd t) (h : ga_ok c S B) (hso : so_ok c so) (hv : sv_ok hS wO) (hfv : ∀ b, b < 160 → st_b sK b = true → fv b = sv_b hS wO b) (hss : so_s kd wd so sK s)
    (hen : ∀ t, t < s → ∀ i, i < cl_n wd t → ga_en c (eo (6 * t + i))) (hr : S + hd_c (cl_n kd s) (cl_n wd s) + (B + gc_c (cl_n kd s) (cl_n wd s) (cl_n wd (cl_n ox s))) ≤ 355)
    (K : ∀ c' eo' so', ga_ex c c' → ga_ok c' (S + hd_c (cl_n kd s) (cl_n wd s)) (B + gc_c (cl_n kd s) (cl_n wd s) (cl_n wd (cl_n ox s))) → so_ok c' so' → so_s kd wd so' sK (s + 1) → (∀ b, (b < 6 * s ∨ 6 * s + 6 ≤ b) → so' b = so b) → fr_s s eo eo' → (∀ i, i < cl_n wd s → ga_en c' (eo' (6 * s + i))) →
      (∀ w, ga_con c' w → vw_n w eo' s (cl_n wd s) = us_f kd ox oy oz wd (stw_n w so' fv wd) (mew_n w so' fv) (fun t => vw_n w eo t (cl_n wd t)) s) → post (sN, sC, sW, pP, pD, pE, c'.1, tc, lV, bU, pL, wH, sE, kd, ox, oy, oz, wd, fo, su, rd, dp, nx, en, hS, wO, nO, nW, c'.2.1, c'.2.2.1, c'.2.2.2.1, c'.2.2.2.2, eo', so', ne, io, td, tf, tb, vA, cH, mK, cA, sK)) : wpX_makeSignal post (sN, sC, sW, pP, pD, pE, c.1, tc, lV, bU, pL, wH, sE, kd, ox, oy, oz, wd, fo, su, rd, dp, nx, en, hS, wO, nO, nW, c.2.1, c.2.2.1, c.2.2.2.1, c.2.2.2.2, eo, so, ne, io, td, tf, tb, vA, cH, mK, cA, sK) (nI s) := by
  have d := hd s (Nat.le_refl _)
  have hin : vp_in (nI s) 24 := vp_in_nI hs (by omega)
  have hc : (nI s).toNatClampNeg = s := nI_clamp (by omega)
  have hW := d.2.2.2.2.1
  have hW1 := d.2.2.2.1
  have hwd := d.2.2.1
  have wc := d.2.2.2.2.2.2.2.2.2.2
  have h4 : ∀ b, 144 ≤ b → b < 160 → so b = -1 → fv b = sv_b hS wO b := fun b hb q z => hfv b q (((hss b q).1 (Or.inl hb)).mp z)
  have KK : ∀ (c' : ga_C) (eo' : Nat → Int32) (g : Nat) (f : (Nat → Bool) → Nat), ¬ (kd s = 0 ∨ kd s = 2) → gc_c (cl_n kd s) (cl_n wd s) (cl_n wd (cl_n ox s)) = g → hd_c (cl_n kd s) (cl_n wd s) = 0 → mk_ok c c' eo eo' s S (B + g) (cl_n wd s) f → (∀ w, f w = us_f kd ox oy oz wd (stw_n w so fv wd) (mew_n w so fv) (fun t => vw_n w eo t (cl_n wd t)) s) → post (sN, sC, sW, pP, pD, pE, c'.1, tc, lV, bU, pL, wH, sE, kd, ox, oy, oz, wd, fo, su, rd, dp, nx, en, hS, wO, nO, nW, c'.2.1, c'.2.2.1, c'.2.2.2.1, c'.2.2.2.2, eo', so, ne, io, td, tf, tb, vA, cH, mK, cA, sK) := by
    intro c' eo' g f hn hg hh m hf
    refine K c' eo' so m.1 (by rw [hg, hh]; exact m.2.1) (so_e m.1 hso) (so_sN hss hn) (fun _ _ => rfl) m.2.2.1 m.2.2.2.1 (fun w hw => (m.2.2.2.2 w hw).trans (hf w))
  have kne : ∀ k, cl_n kd s = k → k ≠ 0 → k ≠ 2 → ¬ (kd s = 0 ∨ kd s = 2) := by
    rintro k hk h0 h2 (z | z)
    · exact h0 (hk.symm.trans ((df_k d (k := 0) (by decide)).mp z))
    · exact h2 (hk.symm.trans ((df_k d (k := 2) (by decide)).mp z))
  unfold wpX_makeSignal
  refine ⟨hin, ?_⟩
  intro k' ek
  refine ⟨hin, ?_⟩
  intro x' ex
  refine ⟨hin, ?_⟩
  intro y' ey
  rw [hc] at ek ex ey
  have hkk : cl_n kd s = 0 ∨ cl_n kd s = 1 ∨ cl_n kd s = 2 ∨ cl_n kd s = 3 ∨ cl_n kd s = 4 ∨ cl_n kd s = 5 ∨ cl_n kd s = 6 ∨ cl_n kd s = 7 ∨ cl_n kd s = 8 ∨ cl_n kd s = 9 ∨ cl_n kd s = 10 ∨ cl_n kd s = 11 ∨ cl_n kd s = 12 ∨ cl_n kd s = 13 ∨ cl_n kd s = 14 ∨ cl_n kd s = 15 ∨ cl_n kd s = 16 ∨ cl_n kd s = 17 ∨ cl_n kd s = 18 := by have := d.2.1; omega
  rcases hkk with hk | hk | hk | hk | hk | hk | hk | hk | hk | hk | hk | hk | hk | hk | hk | hk | hk | hk | hk
  · have ekk : kd s = nI 0 := by rw [d.1, hk]
    rw [ekk] at ek
    subst ek
    have hst : kd s = 0 ∨ kd s = 2 := Or.inl ekk
    have e1 : hd_c (cl_n kd s) (cl_n wd s) = cl_n wd s := by rw [hk]; rfl
    have e2 : gc_c (cl_n kd s) (cl_n wd s) (cl_n wd (cl_n ox s)) = 0 := by rw [hk]; rfl
    rw [e1, e2] at hr
    refine br_f (by decide) ?_
    refine gm_state (fv := fv) hs hW hwd (by decide) hv hfv h hso (fun j hj => ?_) (by omega) ?_
    · refine (hss _ (by omega)).2 ?_
      rintro (z | ⟨z1, z2, z3⟩)
      · omega
      · omega
    · intro c' eo' so' x1 x2 x3 x4 x5 x6 x7 x8
      refine K c' eo' so' x1 (by rw [e1, e2]; exact x2) x3 (so_sS hss hst rfl hW x5 x6) (fun b hb => x5 b (by omega)) x4 x7 (fun w hw => ?_)
      rw [us_st hst]
      exact nb_cg _ (fun i hi => x8 w hw i hi)
  · have ekk : kd s = nI 1 := by rw [d.1, hk]
    rw [ekk] at ek
    subst ek
    have hy := d.2.2.2.2.2.2.2.2.1 (Or.inl hk)
    refine br_f (by decide) ?_
    refine gm_const hs hW hwd hy.1 hy.2 h ?_
    intro c' eo' m
    refine KK c' eo' 0 _ (kne 1 hk (by decide) (by decide)) (by rw [hk]; rfl) (by rw [hk]; rfl) m (fun w => ?_)
    rw [us_k d hk (by decide) (by decide)]
    rfl
  · have ekk : kd s = nI 2 := by rw [d.1, hk]
    rw [ekk] at ek
    subst ek
    have hst : kd s = 0 ∨ kd s = 2 := Or.inr ekk
    have e1 : hd_c (cl_n kd s) (cl_n wd s) = cl_n wd s := by rw [hk]; rfl
    have e2 : gc_c (cl_n kd s) (cl_n wd s) (cl_n wd (cl_n ox s)) = 0 := by rw [hk]; rfl
    rw [e1, e2] at hr
    refine br_f (by decide) ?_
    refine gm_state (fv := fv) hs hW hwd (by decide) hv hfv h hso (fun j hj => ?_) (by omega) ?_
    · refine (hss _ (by omega)).2 ?_
      rintro (z | ⟨z1, z2, z3⟩)
      · omega
      · omega
    · intro c' eo' so' x1 x2 x3 x4 x5 x6 x7 x8
      refine K c' eo' so' x1 (by rw [e1, e2]; exact x2) x3 (so_sS hss hst rfl hW x5 x6) (fun b hb => x5 b (by omega)) x4 x7 (fun w hw => ?_)
      rw [us_st hst]
      exact nb_cg _ (fun i hi => x8 w hw i hi)
  · have ekk : kd s = nI 3 := by rw [d.1, hk]
    rw [ekk] at ek
    subst ek
    have hx := d.2.2.2.2.2.1 (by omega)
    rw [hx.1] at ex
    subst ex
    have dx := hd _ (Nat.le_of_lt hx.2)
    have e1 : hd_c (cl_n kd s) (cl_n wd s) = 0 := by rw [hk]; rfl
    have e2 : gc_c (cl_n kd s) (cl_n wd s) (cl_n wd (cl_n ox s)) = 0 := by rw [hk]; rfl
    rw [e1, e2] at hr
    refine br_t (by decide) (br_f (by decide) (br_f (by decide) (br_f (by decide) (br_f (by decide) (br_f (by decide) (br_f (by decide) (br_f (by decide) (br_f (by decide) (br_f (by decide) (?_))))))))))
    have w1 := wc.1 hk
    refine ⟨cl_n wd s + 1, gm_190 (g := 0) (B := B) (c0 := c) (eo0 := eo) (bf := fun w i => !nb_lit w (eo (6 * cl_n ox s + i))) hs hW hwd ?_ ?_ (cl_n wd s + 1) 0 c eo (by omega) (by omega) (ga_ex_r c) (ga_mono h (Nat.le_refl _) (by omega)) (fr_r s eo) (fun j hj => absurd hj (by omega)) (fun w hw j hj => absurd hj (by omega))⟩
    · intro i c1 eo1 hi x1 x2 x3 P KP
      have f1 := fr_x x3 hx.2 (i := i) (by omega)
      refine gm_b3 hs (by omega) (by omega) hx.1 x2 (by rw [f1]; exact ga_en_e x1 (hen _ hx.2 i (by omega))) ?_
      rw [f1]
      exact KP
    · intro c' eo' m
      refine KK c' eo' (0 * cl_n wd s) _ (kne 3 hk (by decide) (by decide)) (by rw [e2, Nat.zero_mul]) e1 m (fun w => ?_)
      rw [us_k d hk (by decide) (by decide)]
      show _ = 2 ^ cl_n wd s - 1 - vw_n w eo (cl_n ox s) (cl_n wd (cl_n ox s))
      rw [← w1]
      exact vl_not _ _
  · have ekk : kd s = nI 4 := by rw [d.1, hk]
    rw [ekk] at ek
    subst ek
    have hx := d.2.2.2.2.2.1 (by omega)
    rw [hx.1] at ex
    subst ex
    have dx := hd _ (Nat.le_of_lt hx.2)
    have hy := d.2.2.2.2.2.2.1 (by omega) (by omega)
    rw [hy.1] at ey
    subst ey
    have dy := hd _ (Nat.le_of_lt hy.2)
    have e1 : hd_c (cl_n kd s) (cl_n wd s) = 0 := by rw [hk]; rfl
    have e2 : gc_c (cl_n kd s) (cl_n wd s) (cl_n wd (cl_n ox s)) = cl_n wd s := by rw [hk]; rfl
    rw [e1, e2] at hr
    refine br_t (by decide) (br_f (by decide) (br_f (by decide) (br_f (by decide) (br_f (by decide) (br_f (by decide) (br_f (by decide) (br_f (by decide) (br_f (by decide) (br_f (by decide) (?_))))))))))
    have w1 := wc.2.1 (by omega) (by omega)
    refine ⟨cl_n wd s + 1, gm_190 (g := 1) (B := B) (c0 := c) (eo0 := eo) (bf := fun w i => (nb_lit w (eo (6 * cl_n ox s + i)) && nb_lit w (eo (6 * cl_n oy s + i)))) hs hW hwd ?_ ?_ (cl_n wd s + 1) 0 c eo (by omega) (by omega) (ga_ex_r c) (ga_mono h (Nat.le_refl _) (by omega)) (fr_r s eo) (fun j hj => absurd hj (by omega)) (fun w hw j hj => absurd hj (by omega))⟩
    · intro i c1 eo1 hi x1 x2 x3 P KP
      have f1 := fr_x x3 hx.2 (i := i) (by omega)
      have f2 := fr_x x3 hy.2 (i := i) (by omega)
      refine gm_b4 hs (by omega) (by omega) (by omega) hx.1 hy.1 x2 (by rw [f1]; exact ga_en_e x1 (hen _ hx.2 i (by omega))) (by rw [f2]; exact ga_en_e x1 (hen _ hy.2 i (by omega))) (by omega) ?_
      rw [f1, f2]
      exact KP
    · intro c' eo' m
      refine KK c' eo' (1 * cl_n wd s) _ (kne 4 hk (by decide) (by decide)) (e2.trans (by omega)) e1 m (fun w => ?_)
      rw [us_k d hk (by decide) (by decide)]
      show _ = vw_n w eo (cl_n ox s) (cl_n wd (cl_n ox s)) &&& vw_n w eo (cl_n oy s) (cl_n wd (cl_n oy s))
      rw [← w1.1, ← w1.2]
      exact vl_and _ _ _
  · have ekk : kd s = nI 5 := by rw [d.1, hk]
    rw [ekk] at ek
    subst ek
    have hx := d.2.2.2.2.2.1 (by omega)
    rw [hx.1] at ex
    subst ex
    have dx := hd _ (Nat.le_of_lt hx.2)
    have hy := d.2.2.2.2.2.2.1 (by omega) (by omega)
    rw [hy.1] at ey
    subst ey
    have dy := hd _ (Nat.le_of_lt hy.2)
    have e1 : hd_c (cl_n kd s) (cl_n wd s) = 0 := by rw [hk]; rfl
    have e2 : gc_c (cl_n kd s) (cl_n wd s) (cl_n wd (cl_n ox s)) = cl_n wd s := by rw [hk]; rfl
    rw [e1, e2] at hr
    refine br_t (by decide) (br_f (by decide) (br_f (by decide) (br_f (by decide) (br_f (by decide) (br_f (by decide) (br_f (by decide) (br_f (by decide) (br_f (by decide) (br_f (by decide) (?_))))))))))
    have w1 := wc.2.1 (by omega) (by omega)
    refine ⟨cl_n wd s + 1, gm_190 (g := 1) (B := B) (c0 := c) (eo0 := eo) (bf := fun w i => (nb_lit w (eo (6 * cl_n ox s + i)) || nb_lit w (eo (6 * cl_n oy s + i)))) hs hW hwd ?_ ?_ (cl_n wd s + 1) 0 c eo (by omega) (by omega) (ga_ex_r c) (ga_mono h (Nat.le_refl _) (by omega)) (fr_r s eo) (fun j hj => absurd hj (by omega)) (fun w hw j hj => absurd hj (by omega))⟩
    · intro i c1 eo1 hi x1 x2 x3 P KP
      have f1 := fr_x x3 hx.2 (i := i) (by omega)
      have f2 := fr_x x3 hy.2 (i := i) (by omega)
      refine gm_b5 hs (by omega) (by omega) (by omega) hx.1 hy.1 x2 (by rw [f1]; exact ga_en_e x1 (hen _ hx.2 i (by omega))) (by rw [f2]; exact ga_en_e x1 (hen _ hy.2 i (by omega))) (by omega) ?_
      rw [f1, f2]
      exact KP
    · intro c' eo' m
      refine KK c' eo' (1 * cl_n wd s) _ (kne 5 hk (by decide) (by decide)) (e2.trans (by omega)) e1 m (fun w => ?_)
      rw [us_k d hk (by decide) (by decide)]
      show _ = vw_n w eo (cl_n ox s) (cl_n wd (cl_n ox s)) ||| vw_n w eo (cl_n oy s) (cl_n wd (cl_n oy s))
      rw [← w1.1, ← w1.2]
      exact vl_or _ _ _
  · have ekk : kd s = nI 6 := by rw [d.1, hk]
    rw [ekk] at ek
    subst ek
    have hx := d.2.2.2.2.2.1 (by omega)
    rw [hx.1] at ex
    subst ex
    have dx := hd _ (Nat.le_of_lt hx.2)
    have hy := d.2.2.2.2.2.2.1 (by omega) (by omega)
    rw [hy.1] at ey
    subst ey
    have dy := hd _ (Nat.le_of_lt hy.2)
    have e1 : hd_c (cl_n kd s) (cl_n wd s) = 0 := by rw [hk]; rfl
    have e2 : gc_c (cl_n kd s) (cl_n wd s) (cl_n wd (cl_n ox s)) = 3 * cl_n wd s := by rw [hk]; rfl
    rw [e1, e2] at hr
    refine br_t (by decide) (br_f (by decide) (br_f (by decide) (br_f (by decide) (br_f (by decide) (br_f (by decide) (br_f (by decide) (br_f (by decide) (br_f (by decide) (br_f (by decide) (?_))))))))))
    have w1 := wc.2.1 (by omega) (by omega)
    refine ⟨cl_n wd s + 1, gm_190 (g := 3) (B := B) (c0 := c) (eo0 := eo) (bf := fun w i => (nb_lit w (eo (6 * cl_n ox s + i)) ^^ nb_lit w (eo (6 * cl_n oy s + i)))) hs hW hwd ?_ ?_ (cl_n wd s + 1) 0 c eo (by omega) (by omega) (ga_ex_r c) (ga_mono h (Nat.le_refl _) (by omega)) (fr_r s eo) (fun j hj => absurd hj (by omega)) (fun w hw j hj => absurd hj (by omega))⟩
    · intro i c1 eo1 hi x1 x2 x3 P KP
      have f1 := fr_x x3 hx.2 (i := i) (by omega)
      have f2 := fr_x x3 hy.2 (i := i) (by omega)
      refine gm_b6 hs (by omega) (by omega) (by omega) hx.1 hy.1 x2 (by rw [f1]; exact ga_en_e x1 (hen _ hx.2 i (by omega))) (by rw [f2]; exact ga_en_e x1 (hen _ hy.2 i (by omega))) (by omega) ?_
      rw [f1, f2]
      exact KP
    · intro c' eo' m
      refine KK c' eo' (3 * cl_n wd s) _ (kne 6 hk (by decide) (by decide)) (e2.trans (by omega)) e1 m (fun w => ?_)
      rw [us_k d hk (by decide) (by decide)]
      show _ = vw_n w eo (cl_n ox s) (cl_n wd (cl_n ox s)) ^^^ vw_n w eo (cl_n oy s) (cl_n wd (cl_n oy s))
      rw [← w1.1, ← w1.2]
      exact vl_xor _ _ _
  · have ekk : kd s = nI 7 := by rw [d.1, hk]
    rw [ekk] at ek
    subst ek
    have hx := d.2.2.2.2.2.1 (by omega)
    rw [hx.1] at ex
    subst ex
    have dx := hd _ (Nat.le_of_lt hx.2)
    have hy := d.2.2.2.2.2.2.1 (by omega) (by omega)
    rw [hy.1] at ey
    subst ey
    have dy := hd _ (Nat.le_of_lt hy.2)
    have e1 : hd_c (cl_n kd s) (cl_n wd s) = 0 := by rw [hk]; rfl
    have e2 : gc_c (cl_n kd s) (cl_n wd s) (cl_n wd (cl_n ox s)) = 9 * cl_n wd s := by rw [hk]; rfl
    rw [e1, e2] at hr
    refine br_t (by decide) (br_t rfl ?_)
    have w1 := wc.2.1 (by omega) (by omega)
    refine gm_plus hs hx.2 hy.2 hW hwd h (fun i hi => hen _ hx.2 i (by omega)) (fun i hi => hen _ hy.2 i (by omega)) (by omega) ?_
    intro c' eo' m
    refine KK c' eo' _ _ (kne 7 hk (by decide) (by decide)) e2 e1 m (fun w => ?_)
    rw [us_k d hk (by decide) (by decide)]
    show _ = (vw_n w eo (cl_n ox s) (cl_n wd (cl_n ox s)) + vw_n w eo (cl_n oy s) (cl_n wd (cl_n oy s))) % 2 ^ cl_n wd s
    rw [← w1.1, ← w1.2]
  · have ekk : kd s = nI 8 := by rw [d.1, hk]
    rw [ekk] at ek
    subst ek
    have hx := d.2.2.2.2.2.1 (by omega)
    rw [hx.1] at ex
    subst ex
    have dx := hd _ (Nat.le_of_lt hx.2)
    have hy := d.2.2.2.2.2.2.1 (by omega) (by omega)
    rw [hy.1] at ey
    subst ey
    have dy := hd _ (Nat.le_of_lt hy.2)
    have e1 : hd_c (cl_n kd s) (cl_n wd s) = 0 := by rw [hk]; rfl
    have e2 : gc_c (cl_n kd s) (cl_n wd s) (cl_n wd (cl_n ox s)) = 9 * cl_n wd s := by rw [hk]; rfl
    rw [e1, e2] at hr
    refine br_t (by decide) (br_f (by decide) (br_t rfl ?_))
    have w1 := wc.2.1 (by omega) (by omega)
    refine gm_minus hs hx.2 hy.2 hW hwd h (fun i hi => hen _ hx.2 i (by omega)) (fun i hi => hen _ hy.2 i (by omega)) (by omega) ?_
    intro c' eo' m
    refine KK c' eo' _ _ (kne 8 hk (by decide) (by decide)) e2 e1 m (fun w => ?_)
    rw [us_k d hk (by decide) (by decide)]
    show _ = (vw_n w eo (cl_n ox s) (cl_n wd (cl_n ox s)) + 2 ^ cl_n wd s - vw_n w eo (cl_n oy s) (cl_n wd (cl_n oy s))) % 2 ^ cl_n wd s
    rw [← w1.1, ← w1.2]
  · have ekk : kd s = nI 9 := by rw [d.1, hk]
    rw [ekk] at ek
    subst ek
    have hx := d.2.2.2.2.2.1 (by omega)
    rw [hx.1] at ex
    subst ex
    have dx := hd _ (Nat.le_of_lt hx.2)
    have hy := d.2.2.2.2.2.2.1 (by omega) (by omega)
    rw [hy.1] at ey
    subst ey
    have dy := hd _ (Nat.le_of_lt hy.2)
    have e1 : hd_c (cl_n kd s) (cl_n wd s) = 0 := by rw [hk]; rfl
    have e2 : gc_c (cl_n kd s) (cl_n wd s) (cl_n wd (cl_n ox s)) = 10 * cl_n wd s * cl_n wd s := by rw [hk]; rfl
    rw [e1, e2] at hr
    refine br_t (by decide) (br_f (by decide) (br_f (by decide) (br_t rfl ?_)))
    have w1 := wc.2.1 (by omega) (by omega)
    refine gm_times hs hx.2 hy.2 hW hW1 hwd h (fun i hi => hen _ hx.2 i (by omega)) (fun i hi => hen _ hy.2 i (by omega)) (by omega) ?_
    intro c' eo' m
    refine KK c' eo' _ _ (kne 9 hk (by decide) (by decide)) e2 e1 m (fun w => ?_)
    rw [us_k d hk (by decide) (by decide)]
    show _ = vw_n w eo (cl_n ox s) (cl_n wd (cl_n ox s)) * vw_n w eo (cl_n oy s) (cl_n wd (cl_n oy s)) % 2 ^ cl_n wd s
    rw [← w1.1, ← w1.2]
  · have ekk : kd s = nI 10 := by rw [d.1, hk]
    rw [ekk] at ek
    subst ek
    have hx := d.2.2.2.2.2.1 (by omega)
    rw [hx.1] at ex
    subst ex
    have dx := hd _ (Nat.le_of_lt hx.2)
    have hy := d.2.2.2.2.2.2.1 (by omega) (by omega)
    rw [hy.1] at ey
    subst ey
    have dy := hd _ (Nat.le_of_lt hy.2)
    have e1 : hd_c (cl_n kd s) (cl_n wd s) = 0 := by rw [hk]; rfl
    have e2 : gc_c (cl_n kd s) (cl_n wd s) (cl_n wd (cl_n ox s)) = 8 * cl_n wd (cl_n ox s) := by rw [hk]; rfl
    rw [e1, e2] at hr
    refine br_t (by decide) (br_f (by decide) (br_f (by decide) (br_f (by decide) (br_t rfl ?_))))
    have w1 := wc.2.2.1 (by omega)
    refine gm_less (W := cl_n wd (cl_n ox s)) hs hx.2 hy.2 dx.2.2.2.2.1 dx.2.2.1 h (fun i hi => hen _ hx.2 i (by omega)) (fun i hi => hen _ hy.2 i (by omega)) (by omega) ?_
    intro c' eo' m
    refine KK c' eo' _ _ (kne 10 hk (by decide) (by decide)) e2 e1 (by rw [w1.1]; exact m) (fun w => ?_)
    rw [us_k d hk (by decide) (by decide)]
    show _ = if vw_n w eo (cl_n ox s) (cl_n wd (cl_n ox s)) < vw_n w eo (cl_n oy s) (cl_n wd (cl_n oy s)) then 1 else 0
    rw [← w1.2]
  · have ekk : kd s = nI 11 := by rw [d.1, hk]
    rw [ekk] at ek
    subst ek
    have hx := d.2.2.2.2.2.1 (by omega)
    rw [hx.1] at ex
    subst ex
    have dx := hd _ (Nat.le_of_lt hx.2)
    have hy := d.2.2.2.2.2.2.1 (by omega) (by omega)
    rw [hy.1] at ey
    subst ey
    have dy := hd _ (Nat.le_of_lt hy.2)
    have e1 : hd_c (cl_n kd s) (cl_n wd s) = 0 := by rw [hk]; rfl
    have e2 : gc_c (cl_n kd s) (cl_n wd s) (cl_n wd (cl_n ox s)) = 4 * cl_n wd (cl_n ox s) := by rw [hk]; rfl
    rw [e1, e2] at hr
    refine br_t (by decide) (br_f (by decide) (br_f (by decide) (br_f (by decide) (br_f (by decide) (br_t rfl ?_)))))
    have w1 := wc.2.2.1 (by omega)
    refine gm_same (W := cl_n wd (cl_n ox s)) hs hx.2 hy.2 dx.2.2.2.2.1 dx.2.2.1 h (fun i hi => hen _ hx.2 i (by omega)) (fun i hi => hen _ hy.2 i (by omega)) (by omega) ?_
    intro c' eo' m
    refine KK c' eo' _ _ (kne 11 hk (by decide) (by decide)) e2 e1 (by rw [w1.1]; exact m) (fun w => ?_)
    rw [us_k d hk (by decide) (by decide)]
    show _ = if vw_n w eo (cl_n ox s) (cl_n wd (cl_n ox s)) = vw_n w eo (cl_n oy s) (cl_n wd (cl_n oy s)) then 1 else 0
    rw [← w1.2]
  · have ekk : kd s = nI 12 := by rw [d.1, hk]
    rw [ekk] at ek
    subst ek
    have hx := d.2.2.2.2.2.1 (by omega)
    rw [hx.1] at ex
    subst ex
    have dx := hd _ (Nat.le_of_lt hx.2)
    have hy := d.2.2.2.2.2.2.1 (by omega) (by omega)
    rw [hy.1] at ey
    subst ey
    have dy := hd _ (Nat.le_of_lt hy.2)
    have hz := d.2.2.2.2.2.2.2.1 hk
    have dz := hd _ (Nat.le_of_lt hz.2)
    have e1 : hd_c (cl_n kd s) (cl_n wd s) = 0 := by rw [hk]; rfl
    have e2 : gc_c (cl_n kd s) (cl_n wd s) (cl_n wd (cl_n ox s)) = 3 * cl_n wd s := by rw [hk]; rfl
    rw [e1, e2] at hr
    refine br_t (by decide) (br_f (by decide) (br_f (by decide) (br_f (by decide) (br_f (by decide) (br_f (by decide) (br_f (by decide) (br_f (by decide) (br_f (by decide) (br_f (by decide) (?_))))))))))
    have w1 := wc.2.2.2.1 hk
    refine ⟨cl_n wd s + 1, gm_190 (g := 3) (B := B) (c0 := c) (eo0 := eo) (bf := fun w i => if nb_lit w (eo (6 * cl_n ox s + 0)) = true then nb_lit w (eo (6 * cl_n oy s + i)) else nb_lit w (eo (6 * cl_n oz s + i))) hs hW hwd ?_ ?_ (cl_n wd s + 1) 0 c eo (by omega) (by omega) (ga_ex_r c) (ga_mono h (Nat.le_refl _) (by omega)) (fr_r s eo) (fun j hj => absurd hj (by omega)) (fun w hw j hj => absurd hj (by omega))⟩
    · intro i c1 eo1 hi x1 x2 x3 P KP
      have f1 := fr_x x3 hx.2 (i := 0) (by omega)
      have f2 := fr_x x3 hy.2 (i := i) (by omega)
      have f3 := fr_x x3 hz.2 (i := i) (by omega)
      refine gm_b12 hs (by omega) (by omega) (by omega) (by omega) hx.1 hy.1 hz.1 x2 (by rw [f1]; exact ga_en_e x1 (hen _ hx.2 0 (by omega))) (by rw [f2]; exact ga_en_e x1 (hen _ hy.2 i (by omega))) (by rw [f3]; exact ga_en_e x1 (hen _ hz.2 i (by omega))) (by omega) ?_
      rw [f1, f2, f3]
      exact KP
    · intro c' eo' m
      refine KK c' eo' (3 * cl_n wd s) _ (kne 12 hk (by decide) (by decide)) e2 e1 m (fun w => ?_)
      rw [us_k d hk (by decide) (by decide)]
      show _ = if vw_n w eo (cl_n ox s) (cl_n wd (cl_n ox s)) = 1 then vw_n w eo (cl_n oy s) (cl_n wd (cl_n oy s)) else vw_n w eo (cl_n oz s) (cl_n wd (cl_n oz s))
      rw [w1.1, ← w1.2.1, ← w1.2.2]
      exact vl_pick (fun i => nb_lit w (eo (6 * cl_n ox s + i))) _ _ _
  · have ekk : kd s = nI 13 := by rw [d.1, hk]
    rw [ekk] at ek
    subst ek
    have hx := d.2.2.2.2.2.1 (by omega)
    rw [hx.1] at ex
    subst ex
    have dx := hd _ (Nat.le_of_lt hx.2)
    have hy := d.2.2.2.2.2.2.1 (by omega) (by omega)
    rw [hy.1] at ey
    subst ey
    have dy := hd _ (Nat.le_of_lt hy.2)
    have e1 : hd_c (cl_n kd s) (cl_n wd s) = 0 := by rw [hk]; rfl
    have e2 : gc_c (cl_n kd s) (cl_n wd s) (cl_n wd (cl_n ox s)) = 6 * cl_n wd s := by rw [hk]; rfl
    rw [e1, e2] at hr
    refine br_t (by decide) (br_f (by decide) (br_f (by decide) (br_f (by decide) (br_f (by decide) (br_f (by decide) (br_t rfl ?_))))))
    have w1 := wc.2.2.2.2.1 (by omega)
    unfold wX_makeSignal_135
    refine br_t rfl ?_
    unfold wX_makeSignal_151
    refine gm_shL hs hx.2 hy.2 hW hwd h (fun i hi => hen _ hx.2 i (by omega)) (fun i hi => hen _ hy.2 i (by omega)) (by omega) ?_
    intro c' eo' m
    refine KK c' eo' _ _ (kne 13 hk (by decide) (by decide)) e2 e1 m (fun w => ?_)
    rw [us_k d hk (by decide) (by decide)]
    show _ = vw_n w eo (cl_n ox s) (cl_n wd (cl_n ox s)) * 2 ^ (vw_n w eo (cl_n oy s) (cl_n wd (cl_n oy s)) % 4) % 2 ^ cl_n wd s
    have lt : vw_n w eo (cl_n oy s) 2 < 4 := nb_lt _ 2
    rw [← w1.1, w1.2, Nat.mod_eq_of_lt lt]
  · have ekk : kd s = nI 14 := by rw [d.1, hk]
    rw [ekk] at ek
    subst ek
    have hx := d.2.2.2.2.2.1 (by omega)
    rw [hx.1] at ex
    subst ex
    have dx := hd _ (Nat.le_of_lt hx.2)
    have hy := d.2.2.2.2.2.2.1 (by omega) (by omega)
    rw [hy.1] at ey
    subst ey
    have dy := hd _ (Nat.le_of_lt hy.2)
    have e1 : hd_c (cl_n kd s) (cl_n wd s) = 0 := by rw [hk]; rfl
    have e2 : gc_c (cl_n kd s) (cl_n wd s) (cl_n wd (cl_n ox s)) = 6 * cl_n wd s := by rw [hk]; rfl
    rw [e1, e2] at hr
    refine br_t (by decide) (br_f (by decide) (br_f (by decide) (br_f (by decide) (br_f (by decide) (br_f (by decide) (br_f (by decide) (br_t rfl ?_)))))))
    have w1 := wc.2.2.2.2.1 (by omega)
    unfold wX_makeSignal_135
    refine br_f (by decide) ?_
    unfold wX_makeSignal_151
    refine gm_shR hs hx.2 hy.2 hW hwd h (fun i hi => hen _ hx.2 i (by omega)) (fun i hi => hen _ hy.2 i (by omega)) (by omega) ?_
    intro c' eo' m
    refine KK c' eo' _ _ (kne 14 hk (by decide) (by decide)) e2 e1 m (fun w => ?_)
    rw [us_k d hk (by decide) (by decide)]
    show _ = vw_n w eo (cl_n ox s) (cl_n wd (cl_n ox s)) / 2 ^ (vw_n w eo (cl_n oy s) (cl_n wd (cl_n oy s)) % 4)
    have lt : vw_n w eo (cl_n oy s) 2 < 4 := nb_lt _ 2
    rw [← w1.1, w1.2, Nat.mod_eq_of_lt lt]
  · have ekk : kd s = nI 15 := by rw [d.1, hk]
    rw [ekk] at ek
    subst ek
    have hx := d.2.2.2.2.2.1 (by omega)
    rw [hx.1] at ex
    subst ex
    have dx := hd _ (Nat.le_of_lt hx.2)
    have hy := d.2.2.2.2.2.2.1 (by omega) (by omega)
    rw [hy.1] at ey
    subst ey
    have dy := hd _ (Nat.le_of_lt hy.2)
    have e1 : hd_c (cl_n kd s) (cl_n wd s) = 0 := by rw [hk]; rfl
    have e2 : gc_c (cl_n kd s) (cl_n wd s) (cl_n wd (cl_n ox s)) = 0 := by rw [hk]; rfl
    rw [e1, e2] at hr
    refine br_t (by decide) (br_f (by decide) (br_f (by decide) (br_f (by decide) (br_f (by decide) (br_f (by decide) (br_f (by decide) (br_f (by decide) (br_f (by decide) (br_f (by decide) (?_))))))))))
    have w1 := wc.2.2.2.2.2.1 hk
    refine ⟨cl_n wd s + 1, gm_190 (g := 0) (B := B) (c0 := c) (eo0 := eo) (bf := fun w i => if i < cl_n wd (cl_n oy s) then nb_lit w (eo (6 * cl_n oy s + i)) else nb_lit w (eo (6 * cl_n ox s + (i - cl_n wd (cl_n oy s))))) hs hW hwd ?_ ?_ (cl_n wd s + 1) 0 c eo (by omega) (by omega) (ga_ex_r c) (ga_mono h (Nat.le_refl _) (by omega)) (fr_r s eo) (fun j hj => absurd hj (by omega)) (fun w hw j hj => absurd hj (by omega))⟩
    · intro i c1 eo1 hi x1 x2 x3 P KP
      have f1 := fr_x x3 hx.2 (i := i - cl_n wd (cl_n oy s)) (by omega)
      have f2 := fr_x x3 hy.2 (i := i) (by omega)
      refine gm_b15 hs (by omega) (by omega) (by omega) hx.1 hy.1 dy.2.2.1 dy.2.2.2.2.1 x2 (fun q => by rw [f1]; exact ga_en_e x1 (hen _ hx.2 _ (by omega))) (fun q => by rw [f2]; exact ga_en_e x1 (hen _ hy.2 i q)) ?_
      rw [f1, f2]
      exact KP
    · intro c' eo' m
      refine KK c' eo' (0 * cl_n wd s) _ (kne 15 hk (by decide) (by decide)) (by rw [e2, Nat.zero_mul]) e1 m (fun w => ?_)
      rw [us_k d hk (by decide) (by decide)]
      show _ = vw_n w eo (cl_n ox s) (cl_n wd (cl_n ox s)) * 2 ^ cl_n wd (cl_n oy s) + vw_n w eo (cl_n oy s) (cl_n wd (cl_n oy s))
      rw [w1]
      exact vl_join (fun i => nb_lit w (eo (6 * cl_n ox s + i))) (fun i => nb_lit w (eo (6 * cl_n oy s + i))) _ _
  · have ekk : kd s = nI 16 := by rw [d.1, hk]
    rw [ekk] at ek
    subst ek
    have hx := d.2.2.2.2.2.1 (by omega)
    rw [hx.1] at ex
    subst ex
    have dx := hd _ (Nat.le_of_lt hx.2)
    have e1 : hd_c (cl_n kd s) (cl_n wd s) = 0 := by rw [hk]; rfl
    have e2 : gc_c (cl_n kd s) (cl_n wd s) (cl_n wd (cl_n ox s)) = 0 := by rw [hk]; rfl
    rw [e1, e2] at hr
    refine br_t (by decide) (br_f (by decide) (br_f (by decide) (br_f (by decide) (br_f (by decide) (br_f (by decide) (br_f (by decide) (br_f (by decide) (br_f (by decide) (br_f (by decide) (?_))))))))))
    have w1 := wc.2.2.2.2.2.2.1 hk
    have hy := d.2.2.2.2.2.2.2.2.2.1 hk
    have hxW := dx.2.2.2.2.1
    refine ⟨cl_n wd s + 1, gm_190 (g := 0) (B := B) (c0 := c) (eo0 := eo) (bf := fun w i => nb_lit w (eo (6 * cl_n ox s + (i + cl_n oy s)))) hs hW hwd ?_ ?_ (cl_n wd s + 1) 0 c eo (by omega) (by omega) (ga_ex_r c) (ga_mono h (Nat.le_refl _) (by omega)) (fr_r s eo) (fun j hj => absurd hj (by omega)) (fun w hw j hj => absurd hj (by omega))⟩
    · intro i c1 eo1 hi x1 x2 x3 P KP
      have f1 := fr_x x3 hx.2 (i := i + cl_n oy s) (by omega)
      refine gm_b16 hs (by omega) (by omega) (by omega) hx.1 hy x2 (by rw [f1]; exact ga_en_e x1 (hen _ hx.2 _ (by omega))) ?_
      rw [f1]
      exact KP
    · intro c' eo' m
      refine KK c' eo' (0 * cl_n wd s) _ (kne 16 hk (by decide) (by decide)) (by rw [e2, Nat.zero_mul]) e1 m (fun w => ?_)
      rw [us_k d hk (by decide) (by decide)]
      exact vl_part (fun i => nb_lit w (eo (6 * cl_n ox s + i))) _ _ _ w1
  · have ekk : kd s = nI 17 := by rw [d.1, hk]
    rw [ekk] at ek
    subst ek
    have hx := d.2.2.2.2.2.1 (by omega)
    rw [hx.1] at ex
    subst ex
    have dx := hd _ (Nat.le_of_lt hx.2)
    have e1 : hd_c (cl_n kd s) (cl_n wd s) = 0 := by rw [hk]; rfl
    have e2 : gc_c (cl_n kd s) (cl_n wd s) (cl_n wd (cl_n ox s)) = 12 * cl_n wd (cl_n ox s) := by rw [hk]; rfl
    rw [e1, e2] at hr
    refine br_t (by decide) (br_f (by decide) (br_f (by decide) (br_f (by decide) (br_f (by decide) (br_f (by decide) (br_f (by decide) (br_f (by decide) (br_t rfl ?_))))))))
    have w1 := wc.2.2.2.2.2.2.2.1 hk
    refine gm_count (W := cl_n wd (cl_n ox s)) hs hx.2 dx.2.2.2.2.1 dx.2.2.1 h (fun i hi => hen _ hx.2 i hi) (by omega) ?_
    intro c' eo' m
    refine KK c' eo' _ _ (kne 17 hk (by decide) (by decide)) e2 e1 (by rw [w1]; exact m) (fun w => ?_)
    rw [us_k d hk (by decide) (by decide)]
    exact vl_pc _ _ dx.2.2.2.2.1
  · have ekk : kd s = nI 18 := by rw [d.1, hk]
    rw [ekk] at ek
    subst ek
    have hx := d.2.2.2.2.2.1 (by omega)
    rw [hx.1] at ex
    subst ex
    have dx := hd _ (Nat.le_of_lt hx.2)
    have e1 : hd_c (cl_n kd s) (cl_n wd s) = 0 := by rw [hk]; rfl
    have e2 : gc_c (cl_n kd s) (cl_n wd s) (cl_n wd (cl_n ox s)) = 40 := by rw [hk]; rfl
    rw [e1, e2] at hr
    refine br_t (by decide) (br_f (by decide) (br_f (by decide) (br_f (by decide) (br_f (by decide) (br_f (by decide) (br_f (by decide) (br_f (by decide) (br_f (by decide) (br_t rfl ?_)))))))))
    have w1 := wc.2.2.2.2.2.2.2.2 hk
    refine gm_read (fv := fv) hs hx.2 h hso hv h4 (fun i hi => hen _ hx.2 i (by omega)) (by omega) ?_
    intro c' eo' m
    refine KK c' eo' _ _ (kne 18 hk (by decide) (by decide)) e2 e1 (by rw [w1.1]; exact m) (fun w => ?_)
    rw [us_k d hk (by decide) (by decide)]
    show _ = mew_n w so fv (vw_n w eo (cl_n ox s) (cl_n wd (cl_n ox s)) % 4)
    have lt : vw_n w eo (cl_n ox s) 2 < 4 := nb_lt _ 2
    rw [w1.2, Nat.mod_eq_of_lt lt]
    rfl
end
end
section
/-! makeGates: the start, the memory's sources -/
section
variable {sN sC sW pP pD pE tc lV bU pL wH sE : Int32} {kd ox oy oz wd fo su rd dp nx en hS wO nO nW eo ne io td tf tb : Nat → Int32} {vA cH mK cA sK : Nat → Int64}
theorem gs_42 {post : SX → Prop} {c : ga_C} (K : ∀ so', (∀ b, b < 160 → so' b = -1) → post (sN, sC, sW, pP, pD, pE, c.1, tc, lV, bU, pL, wH, sE, kd, ox, oy, oz, wd, fo, su, rd, dp, nx, en, hS, wO, nO, nW, c.2.1, c.2.2.1, c.2.2.2.1, c.2.2.2.2, eo, so', ne, io, td, tf, tb, vA, cH, mK, cA, sK)) :
    ∀ (n i : Nat) (so : Nat → Int32), 160 < n + i → i ≤ 160 → (∀ b, b < i → so b = -1) → wX_startGates_42 post sN sC sW pP pD pE c.1 tc lV bU pL wH sE n (nI i) kd ox oy oz wd fo su rd dp nx en hS wO nO nW c.2.1 c.2.2.1 c.2.2.2.1 c.2.2.2.2 eo so ne io td tf tb vA cH mK cA sK := by
  intro n
  induction n with
  | zero => intro i so h1 h2; omega
  | succ n ih =>
    intro i so h1 h2 hI
    unfold wX_startGates_42
    refine pk_le 160 i (fun hle => ?_) (fun hlt => ?_)
    · exact K so (fun b hb => hI b (by omega))
    · refine ⟨vp_in_nI (by omega) (by omega), ?_⟩
      intro so' es
      rw [nI_clamp (by omega), nr_sm] at es
      intro y ey
      have e2 := ey.trans (nI_1 i)
      subst e2 es
      refine ih (i + 1) _ (by omega) (by omega) (fun b hb => ?_)
      by_cases q : b = i
      · rw [q, pk_us]
      · rw [pk_un q]; exact hI b (by omega)
theorem gs_21 {post : SX → Prop} {so : Nat → Int32} {a b l : Nat → Int32} (ha : a 0 = -1)
    (K : ∀ c so', ga_ok c 0 0 → (∀ b, b < 160 → so' b = -1) → post (sN, sC, sW, pP, pD, pE, c.1, tc, lV, bU, pL, wH, sE, kd, ox, oy, oz, wd, fo, su, rd, dp, nx, en, hS, wO, nO, nW, c.2.1, c.2.2.1, c.2.2.2.1, c.2.2.2.2, eo, so', ne, io, td, tf, tb, vA, cH, mK, cA, sK)) :
    ∀ (n i : Nat) (f : Nat → Int32), 64 < n + i → i ≤ 64 → (∀ j, j < i → f j = 0) → wX_startGates_21 post sN sC sW pP pD pE (((1 : Int32), a, b, l, f).1) tc lV bU pL wH sE n (nI i) kd ox oy oz wd fo su rd dp nx en hS wO nO nW (((1 : Int32), a, b, l, f).2.1) (((1 : Int32), a, b, l, f).2.2.1) (((1 : Int32), a, b, l, f).2.2.2.1) (((1 : Int32), a, b, l, f).2.2.2.2) eo so ne io td tf tb vA cH mK cA sK := by
  intro n
  induction n with
  | zero => intro i f h1 h2; omega
  | succ n ih =>
    intro i f h1 h2 hI
    unfold wX_startGates_21
    refine pk_le 64 i (fun hle => ?_) (fun hlt => ?_)
    · refine ⟨161, gs_42 (c := ((1 : Int32), a, b, l, f)) (fun so' hs => K ((1 : Int32), a, b, l, f) so' ?_ hs) 161 0 so (by omega) (by omega) (fun b hb => absurd hb (by omega))⟩
      have eM : ga_M ((1 : Int32), a, b, l, f) = 1 := rfl
      refine ⟨rfl, by rw [eM]; omega, by rw [eM]; omega, ?_, ha, ?_, ?_, ?_⟩
      · rw [eM]
        show 0 + (if a 0 = -1 then 0 else 1) ≤ 0
        rw [if_pos ha]
        omega
      · intro n hn
        rw [eM] at hn
        rw [show n = 0 from by omega]
        exact Or.inl ha
      · intro k hk
        exact ⟨0, hI k (by omega), by rw [eM]; omega, Or.inl rfl⟩
      · intro n hn hg
        rw [eM] at hn
        rw [show n = 0 from by omega] at hg
        exact absurd ha hg
    · refine ⟨vp_in_nI (by omega) (by omega), ?_⟩
      intro f' ef
      rw [nI_clamp (by omega), show vp_nar .short (0 : Int32) = 0 from nr_s0 (a := 0) (by omega)] at ef
      intro y ey
      have e2 := ey.trans (nI_1 i)
      subst e2 ef
      refine ih (i + 1) (upd f i 0) (by omega) (by omega) (fun j hj => ?_)
      by_cases q : j = i
      · rw [q]; exact pk_us
      · exact (pk_un q).trans (hI j (by omega))
variable {c : ga_C} {so : Nat → Int32}
theorem gs_start {post : SX → Prop} (K : ∀ c' so', ga_ok c' 0 0 → (∀ b, b < 160 → so' b = -1) → post (sN, sC, sW, pP, pD, pE, c'.1, tc, lV, bU, pL, wH, sE, kd, ox, oy, oz, wd, fo, su, rd, dp, nx, en, hS, wO, nO, nW, c'.2.1, c'.2.2.1, c'.2.2.2.1, c'.2.2.2.2, eo, so', ne, io, td, tf, tb, vA, cH, mK, cA, sK)) : wpX_startGates post (sN, sC, sW, pP, pD, pE, c.1, tc, lV, bU, pL, wH, sE, kd, ox, oy, oz, wd, fo, su, rd, dp, nx, en, hS, wO, nO, nW, c.2.1, c.2.2.1, c.2.2.2.1, c.2.2.2.2, eo, so, ne, io, td, tf, tb, vA, cH, mK, cA, sK) := by
  unfold wpX_startGates
  intro a ea
  intro b eb
  rw [nr_sm] at ea eb
  exact ⟨65, gs_21 (a := a) (b := b) (l := c.2.2.2.1) (by rw [ea]; exact pk_us) K 65 0 c.2.2.2.2 (by omega) (by omega) (fun j hj => absurd hj (by omega))⟩
end
section
variable {sN sC sW pP pD pE tc lV bU pL wH sE : Int32} {kd ox oy oz wd fo su rd dp nx en hS wO nO nW eo ne io td tf tb : Nat → Int32} {vA cH mK cA sK : Nat → Int64}
/-- the memory's sources -/
theorem gs_8 {post : SX → Prop} {fv : Nat → Bool} (hv : sv_ok hS wO) (hfv : ∀ b, b < 160 → st_b sK b = true → fv b = sv_b hS wO b)
    (K : ∀ c so, ga_ok c 16 0 → so_ok c so → so_s kd wd so sK 0 → ∃ n, wX_makeGates_36 post n 0 sN sC sW pP pD pE c.1 tc lV bU pL wH sE kd ox oy oz wd fo su rd dp nx en hS wO nO nW c.2.1 c.2.2.1 c.2.2.2.1 c.2.2.2.2 eo so ne io td tf tb vA cH mK cA sK) :
    ∀ (n i : Nat) (c : ga_C) (so : Nat → Int32), 160 < n + i → 144 ≤ i → i ≤ 160 → ga_ok c (i - 144) 0 → so_ok c so → (∀ b, b < 160 → (144 ≤ b ∧ b < i → (so b = -1 ↔ st_b sK b = true)) ∧ (¬ (144 ≤ b ∧ b < i) → so b = -1)) → wX_makeGates_8 post n (nI i) sN sC sW pP pD pE c.1 tc lV bU pL wH sE kd ox oy oz wd fo su rd dp nx en hS wO nO nW c.2.1 c.2.2.1 c.2.2.2.1 c.2.2.2.2 eo so ne io td tf tb vA cH mK cA sK := by
  intro n
  induction n with
  | zero => intro i c so h1 h2 h3; omega
  | succ n ih =>
    intro i c so h1 h0 h2 hok hso hI
    unfold wX_makeGates_8
    refine pk_le 160 i (fun hle => ?_) (fun hlt => ?_)
    · have e : i = 160 := by omega
      subst e
      refine K c so hok hso (fun b hb => ⟨fun z => ?_, fun z => ?_⟩)
      · rcases z with z | ⟨z, -⟩
        · exact (hI b hb).1 ⟨z, hb⟩
        · omega
      · refine (hI b hb).2 (fun q => z (Or.inl q.1))
    · refine gw_stateValue hlt hv ?_
      refine gw_sourceEnd (fv := fv) hlt hok (by omega) hso ((hI i hlt).2 (by omega)) (fun z => by rw [hfv i hlt z]) ?_
      intro e c' so' x1 x2 x3 x4 x5 x6 x7
      intro y ey
      have e2 := ey.trans (nI_1 i)
      subst e2
      refine ih (i + 1) c' so' (by omega) (by omega) (by omega) (ga_mono x2 (by omega) (Nat.le_refl _)) x3 (fun b hb => ?_)
      by_cases q : b = i
      · subst q
        exact ⟨fun _ => x5, fun z => absurd ⟨h0, by omega⟩ z⟩
      · rw [x4 b q]
        refine ⟨fun z => (hI b hb).1 (by omega), fun z => (hI b hb).2 (by omega)⟩
end
end
section
/-! makeGates: all signals in order -/
def hs_n (kd wd : Nat → Int32) : Nat → Nat
  | 0 => 0
  | s + 1 => hs_n kd wd s + hd_c (cl_n kd s) (cl_n wd s)
def gc_n (kd ox wd : Nat → Int32) : Nat → Nat
  | 0 => 0
  | s + 1 => gc_n kd ox wd s + gc_c (cl_n kd s) (cl_n wd s) (cl_n wd (cl_n ox s))
def nc_n (kd wd : Nat → Int32) : Nat → Nat
  | 0 => 0
  | s + 1 => nc_n kd wd s + nc_c (cl_n kd s) (cl_n wd s)
theorem hs_m {kd wd : Nat → Int32} : ∀ n m, m ≤ n → hs_n kd wd m ≤ hs_n kd wd n := by
  intro n
  induction n with
  | zero => intro m h; rw [show m = 0 from by omega]; exact Nat.le_refl _
  | succ n ih =>
    intro m h
    by_cases e : m = n + 1
    · rw [e]; exact Nat.le_refl _
    · exact Nat.le_trans (ih m (by omega)) (Nat.le_add_right _ _)
theorem gc_m {kd ox wd : Nat → Int32} : ∀ n m, m ≤ n → gc_n kd ox wd m ≤ gc_n kd ox wd n := by
  intro n
  induction n with
  | zero => intro m h; rw [show m = 0 from by omega]; exact Nat.le_refl _
  | succ n ih =>
    intro m h
    by_cases e : m = n + 1
    · rw [e]; exact Nat.le_refl _
    · exact Nat.le_trans (ih m (by omega)) (Nat.le_add_right _ _)
theorem nc_m {kd wd : Nat → Int32} : ∀ n m, m ≤ n → nc_n kd wd m ≤ nc_n kd wd n := by
  intro n
  induction n with
  | zero => intro m h; rw [show m = 0 from by omega]; exact Nat.le_refl _
  | succ n ih =>
    intro m h
    by_cases e : m = n + 1
    · rw [e]; exact Nat.le_refl _
    · exact Nat.le_trans (ih m (by omega)) (Nat.le_add_right _ _)
def fo_ok (fo wd : Nat → Int32) (N : Nat) : Prop := ∀ s, s < N → fo s = -1 ∨ ∃ f, fo s = nI f ∧ f < 2 ^ cl_n wd s
def gs_inv (kd ox oy oz wd fo : Nat → Int32) (sK : Nat → Int64) (fv : Nat → Bool) (s : Nat) (c : ga_C) (eo so : Nat → Int32) : Prop :=
  so_ok c so ∧ so_s kd wd so sK s ∧ (∀ t, t < s → ∀ i, i < cl_n wd t → ga_en c (eo (6 * t + i))) ∧ ∀ w, ga_con c w → sl_s s kd ox oy oz wd fo (stw_n w so fv wd) (mew_n w so fv) (fun t => vw_n w eo t (cl_n wd t))
theorem stw_cg {w : Nat → Bool} {so so' : Nat → Int32} {fv : Nat → Bool} {wd : Nat → Int32} {t : Nat} (hW : cl_n wd t ≤ 6) (h : ∀ i, i < 6 → so' (6 * t + i) = so (6 * t + i)) : stw_n w so' fv wd t = stw_n w so fv wd t :=
  nb_cg _ (fun i hi => sg_cg (h i (by omega)))
theorem mew_cg {w : Nat → Bool} {so so' : Nat → Int32} {fv : Nat → Bool} {p : Nat} (h : ∀ i, i < 4 → so' (144 + 4 * p + i) = so (144 + 4 * p + i)) : mew_n w so' fv p = mew_n w so fv p :=
  nb_cg _ (fun i hi => sg_cg (h i hi))
theorem vw_cg {w : Nat → Bool} {eo eo' : Nat → Int32} {t W : Nat} (hW : W ≤ 6) (h : ∀ i, i < 6 → eo' (6 * t + i) = eo (6 * t + i)) : vw_n w eo' t W = vw_n w eo t W :=
  nb_cg _ (fun i hi => by rw [h i (by omega)])
/-- one signal more -/
theorem gs_step {kd ox oy oz wd fo : Nat → Int32} {sK : Nat → Int64} {fv : Nat → Bool} {s : Nat} {c c' : ga_C} {eo so eo' so' : Nat → Int32} (hs : s < 24) (hd : ∀ t, t ≤ s → df_s kd ox oy oz wd t) (h : gs_inv kd ox oy oz wd fo sK fv s c eo so)
    (x1 : ga_ex c c') (x3 : so_ok c' so') (x4 : so_s kd wd so' sK (s + 1)) (x5 : ∀ b, (b < 6 * s ∨ 6 * s + 6 ≤ b) → so' b = so b) (x6 : fr_s s eo eo') (x7 : ∀ i, i < cl_n wd s → ga_en c' (eo' (6 * s + i)))
    (x8 : ∀ w, ga_con c' w → vw_n w eo' s (cl_n wd s) = sp_f kd ox oy oz wd fo (stw_n w so' fv wd) (mew_n w so' fv) (fun t => vw_n w eo t (cl_n wd t)) s) : gs_inv kd ox oy oz wd fo sK fv (s + 1) c' eo' so' := by
  obtain ⟨h1, h2, h3, h4⟩ := h
  have ev : ∀ w t, t < s → vw_n w eo' t (cl_n wd t) = vw_n w eo t (cl_n wd t) := fun w t ht => vw_cg (hd t (by omega)).2.2.2.2.1 (fun i hi => x6 _ (Or.inl (by omega)))
  refine ⟨x3, x4, fun t ht i hi => ?_, fun w hw t ht => ?_⟩
  · by_cases q : t = s
    · rw [q] at hi ⊢
      exact x7 i hi
    · have d := (hd t (by omega)).2.2.2.2.1
      rw [x6 _ (Or.inl (by omega))]
      exact ga_en_e x1 (h3 t (by omega) i hi)
  · have d := hd t (by omega)
    have ee : sp_f kd ox oy oz wd fo (stw_n w so' fv wd) (mew_n w so' fv) (fun t => vw_n w eo' t (cl_n wd t)) t = sp_f kd ox oy oz wd fo (stw_n w so' fv wd) (mew_n w so' fv) (fun t => vw_n w eo t (cl_n wd t)) t :=
      sp_cg d (fun _ => rfl) (fun _ _ _ => rfl) (fun z => ev w _ (by have := (d.2.2.2.2.2.1 z).2; omega)) (fun z z2 => ev w _ (by have := (d.2.2.2.2.2.2.1 z z2).2; omega)) (fun z => ev w _ (by have := (d.2.2.2.2.2.2.2.1 z).2; omega))
    show vw_n w eo' t (cl_n wd t) = _
    rw [ee]
    by_cases q : t = s
    · subst q
      exact x8 w hw
    · rw [ev w t (by omega)]
      have e := h4 w (ga_con_e x1 hw) t (by omega)
      refine Eq.trans e ?_
      exact sp_cg d (fun _ => (stw_cg d.2.2.2.2.1 (fun i hi => x5 _ (Or.inl (by omega)))).symm) (fun _ p hp => (mew_cg (fun i hi => x5 _ (Or.inr (by omega)))).symm) (fun _ => rfl) (fun _ _ => rfl) (fun _ => rfl)
section
variable {sN sC sW pP pD pE tc lV bU pL wH sE : Int32} {kd ox oy oz wd fo su rd dp nx en hS wO nO nW ne io td tf tb : Nat → Int32} {vA cH mK cA sK : Nat → Int64}
theorem gs_64 {post : SX → Prop} {J : Int32 → Int32 → Int32 → Int32 → Int32 → Int32 → Int32 → Int32 → Int32 → Int32 → Int32 → Int32 → Int32 → Int32 → (Nat → Int32) → (Nat → Int32) → (Nat → Int32) → (Nat → Int32) → (Nat → Int32) → (Nat → Int32) → (Nat → Int32) → (Nat → Int32) → (Nat → Int32) → (Nat → Int32) → (Nat → Int32) → (Nat → Int32) → (Nat → Int32) → (Nat → Int32) → (Nat → Int32) → (Nat → Int32) → (Nat → Int32) → (Nat → Int32) → (Nat → Int32) → (Nat → Int32) → (Nat → Int32) → (Nat → Int32) → (Nat → Int32) → (Nat → Int32) → (Nat → Int32) → (Nat → Int32) → (Nat → Int64) → (Nat → Int64) → (Nat → Int64) → (Nat → Int64) → (Nat → Int64) → Prop} {s W f S B : Nat} {c : ga_C} {eo0 so : Nat → Int32} (hs : s < 24) (hW : W ≤ 6) (hwd : wd s = nI W) (hfo : fo s = nI f) (hf : f < 2 ^ W) (h : ga_ok c S B)
    (K : ∀ eo', fr_s s eo0 eo' → (∀ j, j < W → eo' (6 * s + j) = nI (f.testBit j).toNat) → J (nI (s + 1)) sN sC sW pP pD pE c.1 tc lV bU pL wH sE kd ox oy oz wd fo su rd dp nx en hS wO nO nW c.2.1 c.2.2.1 c.2.2.2.1 c.2.2.2.2 eo' so ne io td tf tb vA cH mK cA sK) :
    ∀ (n i : Nat) (eo : Nat → Int32), W < n + i → i ≤ W → fr_s s eo0 eo → (∀ j, j < i → eo (6 * s + j) = nI (f.testBit j).toNat) → wX_makeGates_64 post J (nI s) n (nI i) sN sC sW pP pD pE c.1 tc lV bU pL wH sE kd ox oy oz wd fo su rd dp nx en hS wO nO nW c.2.1 c.2.2.1 c.2.2.2.1 c.2.2.2.2 eo so ne io td tf tb vA cH mK cA sK := by
  have hin : vp_in (nI s) 24 := vp_in_nI hs (by omega)
  have hc : (nI s).toNatClampNeg = s := nI_clamp (by omega)
  have hwd' : wd (nI s).toNatClampNeg = nI W := by rw [nI_clamp (by omega)]; exact hwd
  have hf6 : f < 2 ^ 31 := Nat.lt_of_lt_of_le hf (Nat.pow_le_pow_right (by decide) (by omega))
  intro n
  induction n with
  | zero => intro i eo h1 h2; omega
  | succ n ih =>
    intro i eo h1 h2 hfr hI
    unfold wX_makeGates_64
    refine ⟨hin, pk_le W i (fun hle => ?_) (fun hlt => ?_) hwd'⟩
    · have e : i = W := by omega
      subst e
      intro y ey
      have e2 := ey.trans (nI_1 s)
      subst e2
      exact K eo hfr hI
    · refine ⟨hin, ?_⟩
      rw [hc, hfo, bx_sh hf6 (by omega)]
      refine gw_set hs (by omega) (ga_enB h _) ?_
      intro y ey
      have e2 := ey.trans (nI_1 i)
      subst e2
      refine ih (i + 1) (upd eo (6 * s + i) (nI (f.testBit i).toNat)) (by omega) (by omega) (fr_u hfr (by omega)) (fun j hj => ?_)
      by_cases q : j = i
      · rw [q, pk_us]
      · rw [up_j q]; exact hI j (by omega)
/-- all signals -/
theorem gs_36 {post : SX → Prop} {fv : Nat → Bool} {N : Nat} (hN : N ≤ 24) (hsN : sN = nI N) (hd : ∀ t, t < N → df_s kd ox oy oz wd t) (hfo : fo_ok fo wd N) (hv : sv_ok hS wO) (hfv : ∀ b, b < 160 → st_b sK b = true → fv b = sv_b hS wO b) (hb : hs_n kd wd N + gc_n kd ox wd N ≤ 300)
    (K : ∀ c eo so, ga_ok c (16 + hs_n kd wd N) (gc_n kd ox wd N) → gs_inv kd ox oy oz wd fo sK fv N c eo so → ∃ n, wX_makeGates_104 post n 0 sN sC sW pP pD pE c.1 tc lV bU pL wH sE kd ox oy oz wd fo su rd dp nx en hS wO nO nW c.2.1 c.2.2.1 c.2.2.2.1 c.2.2.2.2 eo so ne io td tf tb vA cH mK cA sK) :
    ∀ (n s : Nat) (c : ga_C) (eo so : Nat → Int32), N < n + s → s ≤ N → ga_ok c (16 + hs_n kd wd s) (gc_n kd ox wd s) → gs_inv kd ox oy oz wd fo sK fv s c eo so → wX_makeGates_36 post n (nI s) sN sC sW pP pD pE c.1 tc lV bU pL wH sE kd ox oy oz wd fo su rd dp nx en hS wO nO nW c.2.1 c.2.2.1 c.2.2.2.1 c.2.2.2.2 eo so ne io td tf tb vA cH mK cA sK := by
  subst hsN
  intro n
  induction n with
  | zero => intro s c eo so h1 h2; omega
  | succ n ih =>
    intro s c eo so h1 h2 hok hI
    unfold wX_makeGates_36
    refine pk_le N s (fun hle => ?_) (fun hlt => ?_)
    · have e : s = N := by omega
      subst e
      exact K c eo so hok hI
    · have hd' : ∀ t, t ≤ s → df_s kd ox oy oz wd t := fun t ht => hd t (by omega)
      have d := hd s hlt
      have m1 := hs_m (kd := kd) (wd := wd) N (s + 1) hlt
      have m2 := gc_m (kd := kd) (ox := ox) (wd := wd) N (s + 1) hlt
      have u1 : hs_n kd wd (s + 1) = hs_n kd wd s + hd_c (cl_n kd s) (cl_n wd s) := rfl
      have u2 : gc_n kd ox wd (s + 1) = gc_n kd ox wd s + gc_c (cl_n kd s) (cl_n wd s) (cl_n wd (cl_n ox s)) := rfl
      have hc : (nI s).toNatClampNeg = s := nI_clamp (by omega)
      refine gm_signal (fv := fv) (by omega) hd' hok hI.1 hv hfv hI.2.1 hI.2.2.1 (by omega) ?_
      intro c' eo' so' x1 x2 x3 x4 x5 x6 x7 x8
      have x2' : ga_ok c' (16 + hs_n kd wd (s + 1)) (gc_n kd ox wd (s + 1)) := by rw [u1, u2, ← Nat.add_assoc]; exact x2
      refine ⟨vp_in_nI (by omega) (by omega), ?_⟩
      rcases hfo s hlt with z | ⟨f, z1, z2⟩
      · refine br_t (by rw [hc]; exact z) ?_
        intro y ey
        have e2 := ey.trans (nI_1 s)
        subst e2
        refine ih (s + 1) c' eo' so' (by omega) (by omega) x2' (gs_step (by omega) hd' hI x1 x3 x4 x5 x6 x7 (fun w hw => ?_))
        unfold sp_f
        rw [if_pos z]
        exact x8 w hw
      · have zn : ¬ fo s = -1 := by
          rw [z1]
          exact nr_ne (Nat.lt_of_lt_of_le z2 (Nat.pow_le_pow_right (by decide) (by have := d.2.2.2.2.1; omega)))
        refine br_f (by rw [hc]; exact zn) ?_
        refine ⟨cl_n wd s + 1, gs_64 (by omega) d.2.2.2.2.1 d.2.2.1 z1 z2 x2' ?_ (cl_n wd s + 1) 0 eo' (by omega) (by omega) (fr_r s eo') (fun j hj => absurd hj (by omega))⟩
        intro eo2 y1 y2
        refine ih (s + 1) c' eo2 so' (by omega) (by omega) x2' (gs_step (by omega) hd' hI x1 x3 x4 x5 (fun j hj => (y1 j hj).trans (x6 j hj)) (fun i hi => by rw [y2 i hi]; exact ga_enB x2' _) (fun w hw => ?_))
        unfold sp_f
        rw [if_neg zn, show cl_n fo s = f from by show (fo s).toNatClampNeg = f; rw [z1]; exact nI_clamp (Nat.lt_of_lt_of_le z2 (Nat.pow_le_pow_right (by decide) (by have := d.2.2.2.2.1; omega)))]
        refine nb_eq z2 (fun i hi => ?_)
        show nb_lit w (eo2 (6 * s + i)) = _
        rw [y2 i hi, ga_lB hw]
end
end
section
/-! makeGates: the ends that state bits get -/
def nx_s (nx en : Nat → Int32) (st v : Nat → Nat) (s : Nat) : Nat := if nx s = -1 then st s else if en s = -1 ∨ v (cl_n en s) = 1 then v (cl_n nx s) else st s
def nx_m (pP pD pE : Int32) (mem v : Nat → Nat) (p : Nat) : Nat := if pP = -1 then mem p else if v pE.toNatClampNeg = 1 ∧ v pP.toNatClampNeg = p then v pD.toNatClampNeg else mem p
def cn_ok (kd wd nx en : Nat → Int32) (N : Nat) : Prop := ∀ s, s < N → kd s = 2 → (nx s = -1 ∨ ∃ t, nx s = nI t ∧ t < N ∧ cl_n wd t = cl_n wd s) ∧ (en s = -1 ∨ ∃ e, en s = nI e ∧ e < N ∧ cl_n wd e = 1)
def pt_ok (wd : Nat → Int32) (pP pD pE : Int32) (N : Nat) : Prop := pP = -1 ∨ ∃ p d e, pP = nI p ∧ pD = nI d ∧ pE = nI e ∧ p < N ∧ d < N ∧ e < N ∧ cl_n wd p = 2 ∧ cl_n wd d = 4 ∧ cl_n wd e = 1
theorem vw_tb {w : Nat → Bool} {eo : Nat → Int32} {t W i : Nat} (h : i < W) : (vw_n w eo t W).testBit i = nb_lit w (eo (6 * t + i)) := by
  unfold vw_n
  rw [nb_tb]
  simp [h]
theorem vw_1 {w : Nat → Bool} {eo : Nat → Int32} {t : Nat} : vw_n w eo t 1 = 1 ↔ nb_lit w (eo (6 * t + 0)) = true := by
  have e : vw_n w eo t 1 = (nb_lit w (eo (6 * t + 0))).toNat := by show 0 + _ * 2 ^ 0 = _; simp
  rw [e]
  cases nb_lit w (eo (6 * t + 0)) <;> simp
theorem stw_tb {w : Nat → Bool} {so : Nat → Int32} {fv : Nat → Bool} {wd : Nat → Int32} {s i : Nat} (h : i < cl_n wd s) : (stw_n w so fv wd s).testBit i = sg_w w so fv (6 * s + i) := by
  unfold stw_n
  rw [nb_tb]
  simp [h]
theorem mew_tb {w : Nat → Bool} {so : Nat → Int32} {fv : Nat → Bool} {p i : Nat} (h : i < 4) : (mew_n w so fv p).testBit i = sg_w w so fv (144 + 4 * p + i) := by
  unfold mew_n
  rw [nb_tb]
  simp [h]
theorem ga_xb {c : ga_C} {e : Int32} (h : ga_en c e) (b : Bool) : ga_en c (e ^^^ nI b.toNat) ∧ ∀ w, nb_lit w (e ^^^ nI b.toNat) = (nb_lit w e ^^ b) := by
  cases b
  · have z : e ^^^ nI (false.toNat) = e := Int32.xor_zero
    rw [z]
    exact ⟨h, fun w => by simp⟩
  · exact ⟨ga_enx h, fun w => (ga_lx h w).trans (by simp)⟩
section
variable {sN sC sW pP pD pE tc lV bU pL wH sE : Int32} {kd ox oy oz wd fo su rd dp nx en hS wO nO nW eo so io td tf tb : Nat → Int32} {vA cH mK cA sK : Nat → Int64}
theorem gn_94 {post : SX → Prop} {J : Int32 → Int32 → Int32 → Int32 → Int32 → Int32 → Int32 → Int32 → Int32 → Int32 → Int32 → Int32 → Int32 → Int32 → (Nat → Int32) → (Nat → Int32) → (Nat → Int32) → (Nat → Int32) → (Nat → Int32) → (Nat → Int32) → (Nat → Int32) → (Nat → Int32) → (Nat → Int32) → (Nat → Int32) → (Nat → Int32) → (Nat → Int32) → (Nat → Int32) → (Nat → Int32) → (Nat → Int32) → (Nat → Int32) → (Nat → Int32) → (Nat → Int32) → (Nat → Int32) → (Nat → Int32) → (Nat → Int32) → (Nat → Int32) → (Nat → Int32) → (Nat → Int32) → (Nat → Int32) → (Nat → Int32) → (Nat → Int64) → (Nat → Int64) → (Nat → Int64) → (Nat → Int64) → (Nat → Int64) → Prop} {x1 e : Int32} {i b : Nat} {c : ga_C} {ne : Nat → Int32} (hb : b < 160) (he : ga_en c e) (K : J (nI (i + 1)) sN sC sW pP pD pE c.1 tc lV bU pL wH sE kd ox oy oz wd fo su rd dp nx en hS wO nO nW c.2.1 c.2.2.1 c.2.2.2.1 c.2.2.2.2 eo so (upd ne b e) io td tf tb vA cH mK cA sK) : wX_makeNext_94 post J x1 (nI i) (nI b) e sN sC sW pP pD pE c.1 tc lV bU pL wH sE kd ox oy oz wd fo su rd dp nx en hS wO nO nW c.2.1 c.2.2.1 c.2.2.2.1 c.2.2.2.2 eo so ne io td tf tb vA cH mK cA sK := by
  unfold wX_makeNext_94
  obtain ⟨m, rfl, h1, h2⟩ := he
  refine ⟨vp_in_nI hb (by omega), ?_⟩
  intro y ey
  rw [nI_clamp (by omega), nr_s (by omega)] at ey
  intro z ez
  have e2 := ez.trans (nI_1 i)
  subst e2 ey
  exact K
theorem gn_2 {post : SX → Prop} {fv : Nat → Bool} {N s W S B : Nat} {c0 : ga_C} {ne0 : Nat → Int32} (hN : N ≤ 24) (hs : s < N) (hd : ∀ t, t < N → df_s kd ox oy oz wd t) (hks : kd s = 2) (hW : cl_n wd s = W) (hcn : cn_ok kd wd nx en N) (hv : sv_ok hS wO) (hfv : ∀ b, b < 160 → st_b sK b = true → fv b = sv_b hS wO b)
    (hI : gs_inv kd ox oy oz wd fo sK fv N c0 eo so) (hr : S + B + 3 * W ≤ 355)
    (K : ∀ c' ne', ga_ex c0 c' → ga_ok c' S (B + 3 * W) → (∀ b, (b < 6 * s ∨ 6 * s + W ≤ b) → ne' b = ne0 b) → (∀ j, j < W → ga_en c' (ne' (6 * s + j))) → (∀ w, ga_con c' w → ∀ j, j < W → nb_lit w (ne' (6 * s + j)) = (nx_s nx en (stw_n w so fv wd) (fun t => vw_n w eo t (cl_n wd t)) s).testBit j) → post (sN, sC, sW, pP, pD, pE, c'.1, tc, lV, bU, pL, wH, sE, kd, ox, oy, oz, wd, fo, su, rd, dp, nx, en, hS, wO, nO, nW, c'.2.1, c'.2.2.1, c'.2.2.2.1, c'.2.2.2.2, eo, so, ne', io, td, tf, tb, vA, cH, mK, cA, sK)) :
    ∀ (n i : Nat) (c : ga_C) (ne : Nat → Int32), W < n + i → i ≤ W → ga_ex c0 c → ga_ok c S (B + 3 * i) → (∀ b, (b < 6 * s ∨ 6 * s + i ≤ b) → ne b = ne0 b) → (∀ j, j < i → ga_en c (ne (6 * s + j))) → (∀ w, ga_con c w → ∀ j, j < i → nb_lit w (ne (6 * s + j)) = (nx_s nx en (stw_n w so fv wd) (fun t => vw_n w eo t (cl_n wd t)) s).testBit j) →
      wX_makeNext_2 post (nI s) n (nI i) sN sC sW pP pD pE c.1 tc lV bU pL wH sE kd ox oy oz wd fo su rd dp nx en hS wO nO nW c.2.1 c.2.2.1 c.2.2.2.1 c.2.2.2.2 eo so ne io td tf tb vA cH mK cA sK := by
  have d := hd s hs
  have hW6 := d.2.2.2.2.1
  have hin : vp_in (nI s) 24 := vp_in_nI (by omega) (by omega)
  have hc : (nI s).toNatClampNeg = s := nI_clamp (by omega)
  have hwd' : wd (nI s).toNatClampNeg = nI W := by rw [hc, d.2.2.1, hW]
  obtain ⟨hnx, hen⟩ := hcn s hs hks
  intro n
  induction n with
  | zero => intro i c ne h1 h2; omega
  | succ n ih =>
    intro i c ne h1 h2 hx0 hok hun hne hI2
    unfold wX_makeNext_2
    refine ⟨hin, pk_le W i (fun hle => ?_) (fun hlt => ?_) hwd'⟩
    · have e : i = W := by omega
      subst e
      exact K c ne hx0 hok hun hne hI2
    · intro b eb
      rw [show 6 * nI s = nI (6 * s) from pk_mul 6 s, nI_add] at eb
      subst eb
      have fin : ∀ (e : Int32) (c' : ga_C), ga_ex c c' → ga_ok c' S (B + 3 * i + 3) → ga_en c' e → (∀ w, ga_con c' w → nb_lit w e = (nx_s nx en (stw_n w so fv wd) (fun t => vw_n w eo t (cl_n wd t)) s).testBit i) → wX_makeNext_94 post (wX_makeNext_2 post (nI s) n) (nI s) (nI i) (nI (6 * s + i)) e sN sC sW pP pD pE c'.1 tc lV bU pL wH sE kd ox oy oz wd fo su rd dp nx en hS wO nO nW c'.2.1 c'.2.2.1 c'.2.2.2.1 c'.2.2.2.2 eo so ne io td tf tb vA cH mK cA sK := by
        intro e c' y1 y2 y3 y4
        refine gn_94 (by omega) y3 ?_
        refine ih (i + 1) c' (upd ne (6 * s + i) e) (by omega) (by omega) (ga_ex_t hx0 y1) (ga_mono y2 (Nat.le_refl _) (by omega)) (fun b hb => (pk_un (by omega)).trans (hun b (by omega))) (fr_en y1 hne y3) (fun w hw j hj => ?_)
        by_cases q : j = i
        · rw [q, pk_us]; exact y4 w hw
        · rw [up_j q]; exact hI2 w (ga_con_e y1 hw) j (by omega)
      have hlive : lv_b kd wd N (6 * s + i) := Or.inr ⟨by omega, by rw [show (6 * s + i) / 6 = s from by omega, hW]; omega, Or.inr (by rw [show (6 * s + i) / 6 = s from by omega]; exact hks)⟩
      refine gw_stateEnd (fv := fv) (by omega) hok (by omega) (so_e hx0 hI.1) hv (fun z => hfv _ (by omega) (((hI.2.1 _ (by omega)).1 hlive).mp z)) ?_
      intro a ha va
      refine ⟨hin, ?_⟩
      rw [hc]
      rcases hnx with z | ⟨t, t1, t2, t3⟩
      · refine br_t (by rw [z]; decide) ?_
        unfold wX_makeNext_52
        refine ⟨hin, br_t (by rw [hc, z]; decide) ?_⟩
        refine fin a c (ga_ex_r c) (ga_mono hok (Nat.le_refl _) (by omega)) ha (fun w hw => ?_)
        rw [va w hw]
        unfold nx_s
        rw [if_pos z, stw_tb (by omega)]
      · have tn : ¬ nx s = -1 := by rw [t1]; exact nr_ne (by omega)
        have t6 := (hd t t2).2.2.2.2.1
        have ht := ga_en_e hx0 (hI.2.2.1 t t2 i (by omega))
        refine br_f (by rw [t1]; exact nI_pos (by omega)) ⟨hin, ?_⟩
        rw [t1]
        refine gw_end (by omega) (by omega) ?_
        unfold wX_makeNext_52
        refine ⟨hin, br_f (by rw [hc, t1]; exact nI_pos (by omega)) ⟨hin, ?_⟩⟩
        rw [hc]
        rcases hen with z | ⟨u, u1, u2, u3⟩
        · refine br_t (by rw [z]; decide) ?_
          refine fin _ c (ga_ex_r c) (ga_mono hok (Nat.le_refl _) (by omega)) ht (fun w hw => ?_)
          unfold nx_s
          rw [if_neg tn, if_pos (Or.inl z), show cl_n nx s = t from by show (nx s).toNatClampNeg = t; rw [t1]; exact nI_clamp (by omega), vw_tb (by omega)]
        · have hu : ga_en c (eo (6 * u)) := ga_en_e hx0 (hI.2.2.1 u u2 0 (by omega))
          refine br_f (by rw [u1]; exact nI_pos (by omega)) ⟨hin, ?_⟩
          rw [u1, show 6 * nI u = nI (6 * u) from pk_mul 6 u, nI_clamp (by omega)]
          refine ⟨vp_in_nI (by omega) (by omega), ?_⟩
          refine gw_pick hok hu ht ha (by omega) ?_
          intro r c' z
          refine fin r c' z.1 z.2.1 z.2.2.1 (fun w hw => ?_)
          have q : nb_lit w r = (if nb_lit w (eo (6 * u)) = true then nb_lit w (eo (6 * t + i)) else nb_lit w a) := z.2.2.2 w hw
          have hun' : ¬ en s = -1 := by rw [u1]; exact nr_ne (by omega)
          have k1 : vw_n w eo u (cl_n wd u) = 1 ↔ nb_lit w (eo (6 * u)) = true := by rw [u3]; exact vw_1
          unfold nx_s
          rw [q, if_neg tn, show cl_n nx s = t from by show (nx s).toNatClampNeg = t; rw [t1]; exact nI_clamp (by omega), show cl_n en s = u from by show (en s).toNatClampNeg = u; rw [u1]; exact nI_clamp (by omega)]
          by_cases q2 : nb_lit w (eo (6 * u)) = true
          · rw [if_pos q2, if_pos (Or.inr (k1.mpr q2))]
            exact (vw_tb (by omega)).symm
          · rw [if_neg q2, if_neg (fun y => by rcases y with y | y; exact hun' y; exact q2 (k1.mp y)), stw_tb (by omega), va w (ga_con_e z.1 hw)]
end
/-! the port -/
section
variable {sN sC sW pP pD pE tc lV bU pL wH sE : Int32} {kd ox oy oz wd fo su rd dp nx en hS wO nO nW eo so io td tf tb : Nat → Int32} {vA cH mK cA sK : Nat → Int64}
theorem gp_133 {post : SX → Prop} {J2 J79 : Int32 → Int32 → Int32 → Int32 → Int32 → Int32 → Int32 → Int32 → Int32 → Int32 → Int32 → Int32 → Int32 → Int32 → (Nat → Int32) → (Nat → Int32) → (Nat → Int32) → (Nat → Int32) → (Nat → Int32) → (Nat → Int32) → (Nat → Int32) → (Nat → Int32) → (Nat → Int32) → (Nat → Int32) → (Nat → Int32) → (Nat → Int32) → (Nat → Int32) → (Nat → Int32) → (Nat → Int32) → (Nat → Int32) → (Nat → Int32) → (Nat → Int32) → (Nat → Int32) → (Nat → Int32) → (Nat → Int32) → (Nat → Int32) → (Nat → Int32) → (Nat → Int32) → (Nat → Int32) → (Nat → Int32) → (Nat → Int64) → (Nat → Int64) → (Nat → Int64) → (Nat → Int64) → (Nat → Int64) → Prop} {x2 e : Int32} {p i : Nat} {c : ga_C} {ne : Nat → Int32} (hp : p < 4) (hi : i < 4) (he : ga_en c e) (K : J79 (nI (i + 1)) sN sC sW pP pD pE c.1 tc lV bU pL wH sE kd ox oy oz wd fo su rd dp nx en hS wO nO nW c.2.1 c.2.2.1 c.2.2.2.1 c.2.2.2.2 eo so (upd ne (144 + 4 * p + i) e) io td tf tb vA cH mK cA sK) : wX_makePort_133 post J2 J79 (nI p) x2 (nI i) e sN sC sW pP pD pE c.1 tc lV bU pL wH sE kd ox oy oz wd fo su rd dp nx en hS wO nO nW c.2.1 c.2.2.1 c.2.2.2.1 c.2.2.2.2 eo so ne io td tf tb vA cH mK cA sK := by
  unfold wX_makePort_133
  obtain ⟨m, rfl, h1, h2⟩ := he
  have e1 : (144 + (4 * nI p)) + nI i = nI (144 + 4 * p + i) := by
    rw [show 4 * nI p = nI (4 * p) from pk_mul 4 p, show 144 + nI (4 * p) = nI (144 + 4 * p) from nI_add 144 _, nI_add]
  rw [e1]
  refine ⟨vp_in_nI (by omega) (by omega), ?_⟩
  intro y ey
  rw [nI_clamp (by omega), nr_s (by omega)] at ey
  intro z ez
  have e2 := ez.trans (nI_1 i)
  subst e2 ey
  exact K
theorem gp_79 {post : SX → Prop} {J2 : Int32 → Int32 → Int32 → Int32 → Int32 → Int32 → Int32 → Int32 → Int32 → Int32 → Int32 → Int32 → Int32 → Int32 → (Nat → Int32) → (Nat → Int32) → (Nat → Int32) → (Nat → Int32) → (Nat → Int32) → (Nat → Int32) → (Nat → Int32) → (Nat → Int32) → (Nat → Int32) → (Nat → Int32) → (Nat → Int32) → (Nat → Int32) → (Nat → Int32) → (Nat → Int32) → (Nat → Int32) → (Nat → Int32) → (Nat → Int32) → (Nat → Int32) → (Nat → Int32) → (Nat → Int32) → (Nat → Int32) → (Nat → Int32) → (Nat → Int32) → (Nat → Int32) → (Nat → Int32) → (Nat → Int32) → (Nat → Int64) → (Nat → Int64) → (Nat → Int64) → (Nat → Int64) → (Nat → Int64) → Prop} {fv : Nat → Bool} {N p S B : Nat} {ch : Int32} {c0 : ga_C} {ne0 : Nat → Int32} (hN : N ≤ 24) (hp : p < 4) (hd : ∀ t, t < N → df_s kd ox oy oz wd t) (hpt : pt_ok wd pP pD pE N) (hv : sv_ok hS wO) (hfv : ∀ b, b < 160 → st_b sK b = true → fv b = sv_b hS wO b)
    (hI : gs_inv kd ox oy oz wd fo sK fv N c0 eo so) (hch : ga_en c0 ch) (hr : S + B + 12 ≤ 355)
    (hcv : ∀ w, ga_con c0 w → pP ≠ -1 → (nb_lit w ch = true ↔ vw_n w eo pE.toNatClampNeg 1 = 1 ∧ vw_n w eo pP.toNatClampNeg 2 = p))
    (K : ∀ c' ne', ga_ex c0 c' → ga_ok c' S (B + 12) → (∀ b, (b < 144 + 4 * p ∨ 144 + 4 * p + 4 ≤ b) → ne' b = ne0 b) → (∀ j, j < 4 → ga_en c' (ne' (144 + 4 * p + j))) → (∀ w, ga_con c' w → ∀ j, j < 4 → nb_lit w (ne' (144 + 4 * p + j)) = (nx_m pP pD pE (mew_n w so fv) (fun t => vw_n w eo t (cl_n wd t)) p).testBit j) → J2 (nI (p + 1)) sN sC sW pP pD pE c'.1 tc lV bU pL wH sE kd ox oy oz wd fo su rd dp nx en hS wO nO nW c'.2.1 c'.2.2.1 c'.2.2.2.1 c'.2.2.2.2 eo so ne' io td tf tb vA cH mK cA sK) :
    ∀ (n i : Nat) (c : ga_C) (ne : Nat → Int32), 4 < n + i → i ≤ 4 → ga_ex c0 c → ga_ok c S (B + 3 * i) → (∀ b, (b < 144 + 4 * p ∨ 144 + 4 * p + i ≤ b) → ne b = ne0 b) → (∀ j, j < i → ga_en c (ne (144 + 4 * p + j))) → (∀ w, ga_con c w → ∀ j, j < i → nb_lit w (ne (144 + 4 * p + j)) = (nx_m pP pD pE (mew_n w so fv) (fun t => vw_n w eo t (cl_n wd t)) p).testBit j) →
      wX_makePort_79 post J2 (nI p) ch n (nI i) sN sC sW pP pD pE c.1 tc lV bU pL wH sE kd ox oy oz wd fo su rd dp nx en hS wO nO nW c.2.1 c.2.2.1 c.2.2.2.1 c.2.2.2.2 eo so ne io td tf tb vA cH mK cA sK := by
  intro n
  induction n with
  | zero => intro i c ne h1 h2; omega
  | succ n ih =>
    intro i c ne h1 h2 hx0 hok hun hne hI2
    unfold wX_makePort_79
    refine pk_le 4 i (fun hle => ?_) (fun hlt => ?_)
    · have e : i = 4 := by omega
      subst e
      intro y ey
      have e2 := ey.trans (nI_1 p)
      subst e2
      exact K c ne hx0 hok hun hne hI2
    · have e1 : (144 + (4 * nI p)) + nI i = nI (144 + 4 * p + i) := by
        rw [show 4 * nI p = nI (4 * p) from pk_mul 4 p, show 144 + nI (4 * p) = nI (144 + 4 * p) from nI_add 144 _, nI_add]
      rw [e1]
      have fin : ∀ (e : Int32) (c' : ga_C), ga_ex c c' → ga_ok c' S (B + 3 * i + 3) → ga_en c' e → (∀ w, ga_con c' w → nb_lit w e = (nx_m pP pD pE (mew_n w so fv) (fun t => vw_n w eo t (cl_n wd t)) p).testBit i) → wX_makePort_133 post J2 (wX_makePort_79 post J2 (nI p) ch n) (nI p) ch (nI i) e sN sC sW pP pD pE c'.1 tc lV bU pL wH sE kd ox oy oz wd fo su rd dp nx en hS wO nO nW c'.2.1 c'.2.2.1 c'.2.2.2.1 c'.2.2.2.2 eo so ne io td tf tb vA cH mK cA sK := by
        intro e c' y1 y2 y3 y4
        refine gp_133 hp hlt y3 ?_
        refine ih (i + 1) c' (upd ne (144 + 4 * p + i) e) (by omega) (by omega) (ga_ex_t hx0 y1) (ga_mono y2 (Nat.le_refl _) (by omega)) (fun b hb => (pk_un (by omega)).trans (hun b (by omega))) (fun j hj => ?_) (fun w hw j hj => ?_)
        · by_cases q : j = i
          · rw [q, pk_us]; exact y3
          · rw [pk_un (by omega)]; exact ga_en_e y1 (hne j (by omega))
        · by_cases q : j = i
          · rw [q, pk_us]; exact y4 w hw
          · rw [pk_un (by omega)]; exact hI2 w (ga_con_e y1 hw) j (by omega)
      refine gw_stateEnd (fv := fv) (by omega) hok (by omega) (so_e hx0 hI.1) hv (fun z => hfv _ (by omega) (((hI.2.1 _ (by omega)).1 (Or.inl (by omega))).mp z)) ?_
      intro a ha va
      rcases hpt with z | ⟨q, d, e, z1, z2, z3, z4, z5, z6, z7, z8, z9⟩
      · refine br_t (by rw [z]; decide) ?_
        refine fin a c (ga_ex_r c) (ga_mono hok (Nat.le_refl _) (by omega)) ha (fun w hw => ?_)
        rw [va w hw]
        unfold nx_m
        rw [if_pos z, mew_tb hlt]
      · have pn : ¬ pP = -1 := by rw [z1]; exact nr_ne (by omega)
        have hdd := ga_en_e hx0 (hI.2.2.1 d z5 i (by omega))
        refine br_f (by rw [z1]; exact nI_pos (by omega)) ?_
        have e2 : (6 * pD) + nI i = nI (6 * d + i) := by
          rw [z2, show 6 * nI d = nI (6 * d) from pk_mul 6 d, nI_add]
        rw [e2, nI_clamp (by omega)]
        refine ⟨vp_in_nI (by omega) (by omega), ?_⟩
        refine gw_pick hok (ga_en_e hx0 hch) hdd ha (by omega) ?_
        intro r c' y
        refine fin r c' y.1 y.2.1 y.2.2.1 (fun w hw => ?_)
        have q1 : nb_lit w r = (if nb_lit w ch = true then nb_lit w (eo (6 * d + i)) else nb_lit w a) := y.2.2.2 w hw
        have q2 := hcv w (ga_con_e hx0 (ga_con_e y.1 hw)) pn
        have cE : pE.toNatClampNeg = e := by rw [z3]; exact nI_clamp (by omega)
        have cP : pP.toNatClampNeg = q := by rw [z1]; exact nI_clamp (by omega)
        have cD : pD.toNatClampNeg = d := by rw [z2]; exact nI_clamp (by omega)
        rw [cE, cP] at q2
        unfold nx_m
        rw [q1, if_neg pn, cE, cP, cD]
        have q2' : nb_lit w ch = true ↔ vw_n w eo e (cl_n wd e) = 1 ∧ vw_n w eo q (cl_n wd q) = p := by rw [z9, z7]; exact q2
        by_cases q3 : nb_lit w ch = true
        · rw [if_pos q3, if_pos (q2'.mp q3)]
          exact (vw_tb (by omega)).symm
        · rw [if_neg q3, if_neg (fun y => q3 (q2'.mpr y)), mew_tb hlt, va w (ga_con_e y.1 hw)]
theorem gp_2 {post : SX → Prop} {fv : Nat → Bool} {N S B : Nat} {c0 : ga_C} {ne0 : Nat → Int32} (hN : N ≤ 24) (hd : ∀ t, t < N → df_s kd ox oy oz wd t) (hpt : pt_ok wd pP pD pE N) (hv : sv_ok hS wO) (hfv : ∀ b, b < 160 → st_b sK b = true → fv b = sv_b hS wO b)
    (hI : gs_inv kd ox oy oz wd fo sK fv N c0 eo so) (hr : S + B + 56 ≤ 355)
    (K : ∀ c' ne', ga_ex c0 c' → ga_ok c' S (B + 56) → (∀ b, b < 144 → ne' b = ne0 b) → (∀ p j, p < 4 → j < 4 → ga_en c' (ne' (144 + 4 * p + j))) → (∀ w, ga_con c' w → ∀ p j, p < 4 → j < 4 → nb_lit w (ne' (144 + 4 * p + j)) = (nx_m pP pD pE (mew_n w so fv) (fun t => vw_n w eo t (cl_n wd t)) p).testBit j) → post (sN, sC, sW, pP, pD, pE, c'.1, tc, lV, bU, pL, wH, sE, kd, ox, oy, oz, wd, fo, su, rd, dp, nx, en, hS, wO, nO, nW, c'.2.1, c'.2.2.1, c'.2.2.2.1, c'.2.2.2.2, eo, so, ne', io, td, tf, tb, vA, cH, mK, cA, sK)) :
    ∀ (n p : Nat) (c : ga_C) (ne : Nat → Int32), 4 < n + p → p ≤ 4 → ga_ex c0 c → ga_ok c S (B + 14 * p) → (∀ b, b < 144 → ne b = ne0 b) → (∀ q j, q < p → j < 4 → ga_en c (ne (144 + 4 * q + j))) → (∀ w, ga_con c w → ∀ q j, q < p → j < 4 → nb_lit w (ne (144 + 4 * q + j)) = (nx_m pP pD pE (mew_n w so fv) (fun t => vw_n w eo t (cl_n wd t)) q).testBit j) →
      wX_makePort_2 post n (nI p) sN sC sW pP pD pE c.1 tc lV bU pL wH sE kd ox oy oz wd fo su rd dp nx en hS wO nO nW c.2.1 c.2.2.1 c.2.2.2.1 c.2.2.2.2 eo so ne io td tf tb vA cH mK cA sK := by
  intro n
  induction n with
  | zero => intro p c ne h1 h2; omega
  | succ n ih =>
    intro p c ne h1 h2 hx0 hok hun hne hI2
    unfold wX_makePort_2
    refine pk_le 4 p (fun hle => ?_) (fun hlt => ?_)
    · have e : p = 4 := by omega
      subst e
      exact K c ne hx0 hok hun hne hI2
    · have inner : ∀ (ch : Int32) (c1 : ga_C), ga_ex c c1 → ga_ok c1 S (B + 14 * p + 2) → ga_en c1 ch → (∀ w, ga_con c1 w → pP ≠ -1 → (nb_lit w ch = true ↔ vw_n w eo pE.toNatClampNeg 1 = 1 ∧ vw_n w eo pP.toNatClampNeg 2 = p)) → ∃ n79, wX_makePort_79 post (wX_makePort_2 post n) (nI p) ch n79 0 sN sC sW pP pD pE c1.1 tc lV bU pL wH sE kd ox oy oz wd fo su rd dp nx en hS wO nO nW c1.2.1 c1.2.2.1 c1.2.2.2.1 c1.2.2.2.2 eo so ne io td tf tb vA cH mK cA sK := by
        intro ch c1 y1 y2 y3 y4
        have hI1 : gs_inv kd ox oy oz wd fo sK fv N c1 eo so := ⟨so_e (ga_ex_t hx0 y1) hI.1, hI.2.1, fun t ht i hi => ga_en_e (ga_ex_t hx0 y1) (hI.2.2.1 t ht i hi), fun w hw => hI.2.2.2 w (ga_con_e (ga_ex_t hx0 y1) hw)⟩
        refine ⟨5, gp_79 (c0 := c1) (ne0 := ne) (B := B + 14 * p + 2) (fv := fv) hN hlt hd hpt hv hfv hI1 y3 (by omega) y4 ?_ 5 0 c1 ne (by omega) (by omega) (ga_ex_r c1) y2 (fun _ _ => rfl) (fun j hj => absurd hj (by omega)) (fun w hw j hj => absurd hj (by omega))⟩
        intro c' ne' x1 x2 x3 x4 x5
        have x1' := ga_ex_t y1 x1
        refine ih (p + 1) c' ne' (by omega) (by omega) (ga_ex_t hx0 x1') (ga_mono x2 (Nat.le_refl _) (by omega)) (fun b hb => (x3 b (by omega)).trans (hun b hb)) (fun q j hq hj => ?_) (fun w hw q j hq hj => ?_)
        · by_cases e : q = p
          · rw [e]; exact x4 j hj
          · rw [x3 _ (by omega)]; exact ga_en_e x1' (hne q j (by omega) hj)
        · by_cases e : q = p
          · rw [e]; exact x5 w hw j hj
          · rw [x3 _ (by omega)]; exact hI2 w (ga_con_e x1' hw) q j (by omega) hj
      rcases hpt with z | ⟨q, d, e, rfl, rfl, rfl, z4, z5, z6, z7, z8, z9⟩
      · refine br_t (by rw [z]; decide) ?_
        exact inner 0 c (ga_ex_r c) (ga_mono hok (Nat.le_refl _) (by omega)) (ga_en0 hok) (fun w hw k => absurd z k)
      · have a1 : nI p &&& 1 = nI (decide (p % 2 = 1)).toNat := by
          rw [show nI p &&& 1 = nI (p % 2) from pk_andN (by omega) (m := 1) 1 (by decide)]
          rcases Nat.mod_two_eq_zero_or_one p with y | y <;> rw [y] <;> rfl
        have a2 : nI p >>> ((1 : Int32) &&& 31) = nI (decide (p / 2 = 1)).toNat := by
          rw [show nI p >>> ((1 : Int32) &&& 31) = nI (p / 2) from pk_shrN (by omega) _ 1 (by decide)]
          rcases (show p / 2 = 0 ∨ p / 2 = 1 from by omega) with y | y <;> rw [y] <;> rfl
        have hl := ga_en_e hx0 (hI.2.2.1 q z4 0 (by omega))
        have hh := ga_en_e hx0 (hI.2.2.1 q z4 1 (by omega))
        have he : ga_en c (eo (6 * e)) := ga_en_e hx0 (hI.2.2.1 e z6 0 (by omega))
        refine br_f (nI_pos (by omega)) ?_
        rw [a1, a2]
        refine gw_end (i := 0) (by omega) (by omega) ?_
        intro lo elo
        refine gw_end (i := 1) (by omega) (by omega) ?_
        intro hi ehi
        subst elo ehi
        obtain ⟨l1, l2⟩ := ga_xb hl (decide (p % 2 = 1))
        obtain ⟨u1, u2⟩ := ga_xb hh (decide (p / 2 = 1))
        refine gw_and hok (ga_enx l1) (ga_enx u1) (by omega) ?_
        intro r1 c1 y1
        have e6 : 6 * nI e = nI (6 * e) := pk_mul 6 e
        refine ⟨by rw [e6]; exact vp_in_nI (by omega) (by omega), ?_⟩
        rw [e6, nI_clamp (by omega)]
        refine gw_and y1.2.1 y1.2.2.1 (ga_en_e y1.1 he) (by omega) ?_
        intro r2 c2 y2
        refine inner r2 c2 (ga_ex_t y1.1 y2.1) y2.2.1 y2.2.2.1 (fun w hw _ => ?_)
        have q1 := y1.2.2.2 w (ga_con_e y2.1 hw)
        have q2 : nb_lit w r2 = (nb_lit w r1 && nb_lit w (eo (6 * e))) := y2.2.2.2 w hw
        rw [q2, q1]
        show ((nb_lit w ((eo (6 * q + 0) ^^^ nI (decide (p % 2 = 1)).toNat) ^^^ 1) && nb_lit w ((eo (6 * q + 1) ^^^ nI (decide (p / 2 = 1)).toNat) ^^^ 1)) && nb_lit w (eo (6 * e))) = true ↔ _
        rw [ga_lx l1, ga_lx u1, l2, u2, nI_clamp (by omega), nI_clamp (by omega), vw_1]
        have k2 : vw_n w eo q 2 = (nb_lit w (eo (6 * q + 0))).toNat + 2 * (nb_lit w (eo (6 * q + 1))).toNat := vw_2
        rw [k2]
        show _ ↔ nb_lit w (eo (6 * e)) = true ∧ _
        have hp4 : p = 0 ∨ p = 1 ∨ p = 2 ∨ p = 3 := by omega
        generalize nb_lit w (eo (6 * q + 0)) = L
        generalize nb_lit w (eo (6 * q + 1)) = H
        generalize nb_lit w (eo (6 * e)) = E
        rcases hp4 with rfl | rfl | rfl | rfl <;> cases L <;> cases H <;> cases E <;> decide
end
/-- what makeGates makes -/
def mg_ok (N : Nat) (kd ox oy oz wd fo nx en : Nat → Int32) (pP pD pE : Int32) (sK : Nat → Int64) (fv : Nat → Bool) (c : ga_C) (eo so ne : Nat → Int32) : Prop :=
  ga_ok c 76 276 ∧ gs_inv kd ox oy oz wd fo sK fv N c eo so ∧ (∀ s, s < N → kd s = 2 → ∀ i, i < cl_n wd s → ga_en c (ne (6 * s + i))) ∧ (∀ p i, p < 4 → i < 4 → ga_en c (ne (144 + 4 * p + i))) ∧
  (∀ w, ga_con c w → ∀ s, s < N → kd s = 2 → ∀ i, i < cl_n wd s → nb_lit w (ne (6 * s + i)) = (nx_s nx en (stw_n w so fv wd) (fun t => vw_n w eo t (cl_n wd t)) s).testBit i) ∧
  (∀ w, ga_con c w → ∀ p i, p < 4 → i < 4 → nb_lit w (ne (144 + 4 * p + i)) = (nx_m pP pD pE (mew_n w so fv) (fun t => vw_n w eo t (cl_n wd t)) p).testBit i)
section
variable {sN sC sW pP pD pE tc lV bU pL wH sE : Int32} {kd ox oy oz wd fo su rd dp nx en hS wO nO nW eo so io td tf tb : Nat → Int32} {vA cH mK cA sK : Nat → Int64}
theorem gn_104 {post : SX → Prop} {fv : Nat → Bool} {N G : Nat} {c0 : ga_C} (hN : N ≤ 24) (hsN : sN = nI N) (hd : ∀ t, t < N → df_s kd ox oy oz wd t) (hcn : cn_ok kd wd nx en N) (hpt : pt_ok wd pP pD pE N) (hv : sv_ok hS wO) (hfv : ∀ b, b < 160 → st_b sK b = true → fv b = sv_b hS wO b)
    (hI : gs_inv kd ox oy oz wd fo sK fv N c0 eo so) (hb : G + nc_n kd wd N ≤ 220)
    (K : ∀ c' ne', mg_ok N kd ox oy oz wd fo nx en pP pD pE sK fv c' eo so ne' → post (sN, sC, sW, pP, pD, pE, c'.1, tc, lV, bU, pL, wH, sE, kd, ox, oy, oz, wd, fo, su, rd, dp, nx, en, hS, wO, nO, nW, c'.2.1, c'.2.2.1, c'.2.2.2.1, c'.2.2.2.2, eo, so, ne', io, td, tf, tb, vA, cH, mK, cA, sK)) :
    ∀ (n s : Nat) (c : ga_C) (ne : Nat → Int32), N < n + s → s ≤ N → ga_ex c0 c → ga_ok c 76 (G + nc_n kd wd s) → (∀ t, t < s → kd t = 2 → ∀ i, i < cl_n wd t → ga_en c (ne (6 * t + i))) → (∀ w, ga_con c w → ∀ t, t < s → kd t = 2 → ∀ i, i < cl_n wd t → nb_lit w (ne (6 * t + i)) = (nx_s nx en (stw_n w so fv wd) (fun t => vw_n w eo t (cl_n wd t)) t).testBit i) →
      wX_makeGates_104 post n (nI s) sN sC sW pP pD pE c.1 tc lV bU pL wH sE kd ox oy oz wd fo su rd dp nx en hS wO nO nW c.2.1 c.2.2.1 c.2.2.2.1 c.2.2.2.2 eo so ne io td tf tb vA cH mK cA sK := by
  subst hsN
  intro n
  induction n with
  | zero => intro s c ne h1 h2; omega
  | succ n ih =>
    intro s c ne h1 h2 hx0 hok hne hI2
    have hI1 : gs_inv kd ox oy oz wd fo sK fv N c eo so := ⟨so_e hx0 hI.1, hI.2.1, fun t ht i hi => ga_en_e hx0 (hI.2.2.1 t ht i hi), fun w hw => hI.2.2.2 w (ga_con_e hx0 hw)⟩
    unfold wX_makeGates_104
    refine pk_le N s (fun hle => ?_) (fun hlt => ?_)
    · have e : s = N := by omega
      subst e
      unfold wpX_makePort
      refine ⟨5, gp_2 (fv := fv) (c0 := c) (ne0 := ne) (S := 76) (B := G + nc_n kd wd s) hN hd hpt hv hfv hI1 (by omega) ?_ 5 0 c ne (by omega) (by omega) (ga_ex_r c) hok (fun _ _ => rfl) (fun q j hq => absurd hq (by omega)) (fun w hw q j hq => absurd hq (by omega))⟩
      intro c' ne' x1 x2 x3 x4 x5
      refine K c' ne' ⟨ga_mono x2 (Nat.le_refl _) (by omega), ⟨so_e x1 hI1.1, hI1.2.1, fun t ht i hi => ga_en_e x1 (hI1.2.2.1 t ht i hi), fun w hw => hI1.2.2.2 w (ga_con_e x1 hw)⟩, fun t ht kt i hi => ?_, x4, fun w hw t ht kt i hi => ?_, x5⟩
      · have t6 := (hd t ht).2.2.2.2.1
        rw [x3 _ (by omega)]
        exact ga_en_e x1 (hne t ht kt i hi)
      · have t6 := (hd t ht).2.2.2.2.1
        rw [x3 _ (by omega)]
        exact hI2 w (ga_con_e x1 hw) t ht kt i hi
    · have d := hd s hlt
      have hc : (nI s).toNatClampNeg = s := nI_clamp (by omega)
      have m1 := nc_m (kd := kd) (wd := wd) N (s + 1) hlt
      have u1 : nc_n kd wd (s + 1) = nc_n kd wd s + nc_c (cl_n kd s) (cl_n wd s) := rfl
      refine ⟨vp_in_nI (by omega) (by omega), ?_⟩
      rw [hc]
      by_cases q : kd s = 2
      · have e2 : nc_c (cl_n kd s) (cl_n wd s) = 3 * cl_n wd s := by
          rw [(df_k d (k := 2) (by decide)).mp q]
          rfl
        refine br_t q ?_
        unfold wpX_makeNext
        refine ⟨cl_n wd s + 1, gn_2 (fv := fv) (c0 := c) (ne0 := ne) (S := 76) (B := G + nc_n kd wd s) hN hlt hd q rfl hcn hv hfv hI1 (by omega) ?_ (cl_n wd s + 1) 0 c ne (by omega) (by omega) (ga_ex_r c) hok (fun _ _ => rfl) (fun j hj => absurd hj (by omega)) (fun w hw j hj => absurd hj (by omega))⟩
        intro c' ne' x1 x2 x3 x4 x5
        intro y ey
        have e3 := ey.trans (nI_1 s)
        subst e3
        refine ih (s + 1) c' ne' (by omega) (by omega) (ga_ex_t hx0 x1) (ga_mono x2 (Nat.le_refl _) (by omega)) (fun t ht kt i hi => ?_) (fun w hw t ht kt i hi => ?_)
        · have t6 := (hd t (by omega)).2.2.2.2.1
          by_cases e : t = s
          · rw [e] at hi ⊢
            exact x4 i hi
          · rw [x3 _ (by omega)]
            exact ga_en_e x1 (hne t (by omega) kt i hi)
        · have t6 := (hd t (by omega)).2.2.2.2.1
          by_cases e : t = s
          · rw [e] at hi ⊢
            exact x5 w hw i hi
          · rw [x3 _ (by omega)]
            exact hI2 w (ga_con_e x1 hw) t (by omega) kt i hi
      · refine br_f q ?_
        intro y ey
        have e3 := ey.trans (nI_1 s)
        subst e3
        refine ih (s + 1) c ne (by omega) (by omega) hx0 (ga_mono hok (Nat.le_refl _) (by omega)) (fun t ht kt i hi => ?_) (fun w hw t ht kt i hi => ?_)
        · have e : t ≠ s := fun e => q (by rw [← e]; exact kt)
          exact hne t (by omega) kt i hi
        · have e : t ≠ s := fun e => q (by rw [← e]; exact kt)
          exact hI2 w hw t (by omega) kt i hi
end
section
variable {sN sC sW pP pD pE nc tc lV bU pL wH sE : Int32} {kd ox oy oz wd fo su rd dp nx en hS wO nO nW la lb nl fl eo so ne io td tf tb : Nat → Int32} {vA cH mK cA sK : Nat → Int64}
theorem gs_gates {post : SX → Prop} {fv : Nat → Bool} {N : Nat} (hN : N ≤ 24) (hsN : sN = nI N) (hd : ∀ t, t < N → df_s kd ox oy oz wd t) (hfo : fo_ok fo wd N) (hcn : cn_ok kd wd nx en N) (hpt : pt_ok wd pP pD pE N) (hv : sv_ok hS wO) (hfv : ∀ b, b < 160 → st_b sK b = true → fv b = sv_b hS wO b)
    (hh : hs_n kd wd N ≤ 60) (hb : gc_n kd ox wd N + nc_n kd wd N ≤ 220)
    (K : ∀ (c : ga_C) eo' so' ne', mg_ok N kd ox oy oz wd fo nx en pP pD pE sK fv c eo' so' ne' → post (sN, sC, sW, pP, pD, pE, c.1, tc, lV, bU, pL, wH, sE, kd, ox, oy, oz, wd, fo, su, rd, dp, nx, en, hS, wO, nO, nW, c.2.1, c.2.2.1, c.2.2.2.1, c.2.2.2.2, eo', so', ne', io, td, tf, tb, vA, cH, mK, cA, sK)) : wpX_makeGates post (sN, sC, sW, pP, pD, pE, nc, tc, lV, bU, pL, wH, sE, kd, ox, oy, oz, wd, fo, su, rd, dp, nx, en, hS, wO, nO, nW, la, lb, nl, fl, eo, so, ne, io, td, tf, tb, vA, cH, mK, cA, sK) := by
  unfold wpX_makeGates
  refine gs_start (c := (nc, la, lb, nl, fl)) ?_
  intro c1 so1 h1 s1
  refine ⟨17, gs_8 (fv := fv) hv hfv ?_ 17 144 c1 so1 (by omega) (by omega) (by omega) h1 ⟨fun b hb => Or.inl (s1 b hb), fun b b' hb _ n1 => absurd (s1 b hb) n1⟩ (fun b hb => ⟨fun z => absurd z (by omega), fun _ => s1 b hb⟩)⟩
  intro c2 so2 h2 o2 s2
  refine ⟨N + 1, gs_36 (fv := fv) hN hsN hd hfo hv hfv (by omega) ?_ (N + 1) 0 c2 eo so2 (by omega) (by omega) h2 ⟨o2, s2, fun t ht => absurd ht (by omega), fun w hw t ht => absurd ht (by omega)⟩⟩
  intro c3 eo3 so3 h3 i3
  refine ⟨N + 1, gn_104 (fv := fv) (c0 := c3) (G := gc_n kd ox wd N) hN hsN hd hcn hpt hv hfv i3 hb ?_ (N + 1) 0 c3 ne (by omega) (by omega) (ga_ex_r c3) (ga_mono h3 (by omega) (by show _ ≤ _ + 0; omega)) (fun t ht => absurd ht (by omega)) (fun w hw t ht => absurd ht (by omega))⟩
  intro c4 ne4 m
  exact K c4 eo3 so3 ne4 m
end
end
section
/-! what may be: bits 0 and 1 of a long; stuck bits -/
def ps_b (x : Int64) (v : Bool) : Bool := x.toBitVec.getLsbD v.toNat
theorem ps_sw {x : Int64} {v : Bool} (h : ps_b x v = true) : ps_b (((x.toUInt64 >>> ((1 : Int32).toInt64.toUInt64 &&& Int64.toUInt64 63)).toInt64) ||| ((x &&& 1) <<< ((1 : Int32).toInt64 &&& 63))) (!v) = true := by
  obtain ⟨n, hn, rfl⟩ := wb_of x
  have h1 : n / 2 < 2 ^ 64 := by omega
  have h2 : n % 2 * 2 < 2 ^ 64 := by omega
  have e1 : ((lN n).toUInt64 >>> ((1 : Int32).toInt64.toUInt64 &&& Int64.toUInt64 63)).toInt64 = lN (n / 2) := wb_shr (k := 1) hn (by decide)
  have e2 : lN n &&& 1 = lN (n % 2) := wb_a1 hn
  have e3 : lN (n % 2) <<< ((1 : Int32).toInt64 &&& 63) = lN (n % 2 * 2) := wb_shl (n % 2) (k := 1) (by decide)
  rw [e1, e2, e3, wb_or h1 h2]
  unfold ps_b at h ⊢
  rw [wb_tb, BitVec.getLsbD_ofNat] at h ⊢
  cases v
  · have h' : n.testBit 0 = true := by simpa using h
    have : (n % 2 * 2).testBit 1 = true := by
      have z : n % 2 = 1 := by
        rw [Nat.testBit_zero] at h'
        simpa using h'
      rw [z]; decide
    show (decide (1 < 64) && (n / 2 ||| n % 2 * 2).testBit 1) = true
    rw [Nat.testBit_or, this]
    simp
  · have h' : n.testBit 1 = true := by simpa using h
    have : (n / 2).testBit 0 = true := by
      have e := Nat.testBit_div_two_pow (n := 1) n 0
      rw [Nat.pow_one] at e
      rw [e]; exact h'
    show (decide (0 < 64) && (n / 2 ||| n % 2 * 2).testBit 0) = true
    rw [Nat.testBit_or, this]
    simp
theorem ps_an {x y : Int64} {a b : Bool} (hx : ps_b x a = true) (hy : ps_b y b = true) : ps_b (((x ||| y) &&& 1) ||| ((x &&& y) &&& 2)) (a && b) = true := by
  unfold ps_b at hx hy ⊢
  rw [Int64.toBitVec_or, Int64.toBitVec_and, Int64.toBitVec_and, Int64.toBitVec_or, Int64.toBitVec_and, BitVec.getLsbD_or, BitVec.getLsbD_and, BitVec.getLsbD_and, BitVec.getLsbD_or, BitVec.getLsbD_and]
  have o0 : (1 : Int64).toBitVec.getLsbD 0 = true := by decide
  have t1 : (2 : Int64).toBitVec.getLsbD 1 = true := by decide
  cases a <;> cases b
  · show ((x.toBitVec.getLsbD 0 || y.toBitVec.getLsbD 0) && (1 : Int64).toBitVec.getLsbD 0 || _) = true
    have : x.toBitVec.getLsbD 0 = true := hx
    rw [this, o0]; rfl
  · show ((x.toBitVec.getLsbD 0 || y.toBitVec.getLsbD 0) && (1 : Int64).toBitVec.getLsbD 0 || _) = true
    have : x.toBitVec.getLsbD 0 = true := hx
    rw [this, o0]; rfl
  · show ((x.toBitVec.getLsbD 0 || y.toBitVec.getLsbD 0) && (1 : Int64).toBitVec.getLsbD 0 || _) = true
    have : y.toBitVec.getLsbD 0 = true := hy
    rw [this, o0]; simp
  · show (_ || (x.toBitVec.getLsbD 1 && y.toBitVec.getLsbD 1) && (2 : Int64).toBitVec.getLsbD 1) = true
    have z1 : x.toBitVec.getLsbD 1 = true := hx
    have z2 : y.toBitVec.getLsbD 1 = true := hy
    rw [z1, z2, t1]; simp
theorem ps_3 (v : Bool) : ps_b 3 v = true := by cases v <;> decide
theorem ps_1 {v : Bool} (h : ps_b 1 v = true) : v = false := by
  cases v
  · rfl
  · exact absurd h (by decide)
theorem ps_2 {v : Bool} (h : ps_b 2 v = true) : v = true := by
  cases v
  · exact absurd h (by decide)
  · rfl
/-- the bits that are registers' or the memory's -/
def s2_b (N : Nat) (kd wd : Nat → Int32) (b : Nat) : Prop := 144 ≤ b ∨ (b / 6 < N ∧ b % 6 < cl_n wd (b / 6) ∧ kd (b / 6) = 2)
def fv_b (oy : Nat → Int32) (b : Nat) : Bool := if b < 144 then (cl_n oy (b / 6)).testBit (b % 6) else false
theorem s2_lv {N b : Nat} {kd wd : Nat → Int32} (h : s2_b N kd wd b) : lv_b kd wd N b := by
  rcases h with z | ⟨z1, z2, z3⟩
  · exact Or.inl z
  · exact Or.inr ⟨z1, z2, Or.inr z3⟩
theorem st_0 {A : Nat → Int64} {b : Nat} (h : A (b / 64) = 0) : st_b A b = false := by
  unfold st_b
  rw [h]
  show (0#64).getLsbD _ = false
  simp
section
variable {sN sC sW pP pD pE nc tc lV bU pL wH sE : Int32} {kd ox oy oz wd fo su rd dp nx en hS wO nO nW la lb nl fl eo so ne io td tf tb : Nat → Int32} {vA cH mK cA : Nat → Int64}
theorem gk_clr2 {post : SX → Prop} (K : ∀ sK', (∀ b, b < 192 → st_b sK' b = false) → post (sN, sC, sW, pP, pD, pE, nc, tc, lV, bU, pL, wH, sE, kd, ox, oy, oz, wd, fo, su, rd, dp, nx, en, hS, wO, nO, nW, la, lb, nl, fl, eo, so, ne, io, td, tf, tb, vA, cH, mK, cA, sK')) :
    ∀ (n i : Nat) (sK : Nat → Int64), 3 < n + i → i ≤ 3 → (∀ j, j < i → sK j = 0) → wX_clearStuck_2 post sN sC sW pP pD pE nc tc lV bU pL wH sE n (nI i) kd ox oy oz wd fo su rd dp nx en hS wO nO nW la lb nl fl eo so ne io td tf tb vA cH mK cA sK := by
  intro n
  induction n with
  | zero => intro i sK h1 h2; omega
  | succ n ih =>
    intro i sK h1 h2 hI
    unfold wX_clearStuck_2
    refine pk_le 3 i (fun hle => ?_) (fun hlt => ?_)
    · exact K sK (fun b hb => st_0 (hI _ (by omega)))
    · refine ⟨vp_in_nI (by omega) (by omega), ?_⟩
      intro s' es
      rw [nI_clamp (by omega)] at es
      intro y ey
      have e2 := ey.trans (nI_1 i)
      subst e2 es
      refine ih (i + 1) _ (by omega) (by omega) (fun j hj => ?_)
      by_cases q : j = i
      · rw [q, pk_uLs]
      · rw [pk_uLn q]; exact hI j (by omega)
variable {sK : Nat → Int64}
theorem gk_clr {post : SX → Prop} (K : ∀ sK', (∀ b, b < 192 → st_b sK' b = false) → post (sN, sC, sW, pP, pD, pE, nc, tc, lV, bU, pL, wH, sE, kd, ox, oy, oz, wd, fo, su, rd, dp, nx, en, hS, wO, nO, nW, la, lb, nl, fl, eo, so, ne, io, td, tf, tb, vA, cH, mK, cA, sK')) : wpX_clearStuck post (sN, sC, sW, pP, pD, pE, nc, tc, lV, bU, pL, wH, sE, kd, ox, oy, oz, wd, fo, su, rd, dp, nx, en, hS, wO, nO, nW, la, lb, nl, fl, eo, so, ne, io, td, tf, tb, vA, cH, mK, cA, sK) := by
  unfold wpX_clearStuck
  exact ⟨4, gk_clr2 K 4 0 sK (by omega) (by omega) (fun j hj => absurd hj (by omega))⟩
theorem gk_sort {post : Int32 → Prop} {N b : Nat} (hN : N ≤ 24) (hsN : sN = nI N) (hb : b < 160) (hd : ∀ t, t < N → df_s kd ox oy oz wd t) (k2 : s2_b N kd wd b → post 2) (k0 : ¬ s2_b N kd wd b → ∀ r, ¬ r = 2 → post r) : wpX_stateBitSort post (sN, sC, sW, pP, pD, pE, nc, tc, lV, bU, pL, wH, sE, kd, ox, oy, oz, wd, fo, su, rd, dp, nx, en, hS, wO, nO, nW, la, lb, nl, fl, eo, so, ne, io, td, tf, tb, vA, cH, mK, cA, sK) (nI b) := by
  unfold wpX_stateBitSort
  refine pk_lt b 144 (fun h => ?_) (fun h => k2 (Or.inl h))
  have e1 : nI b / 6 = nI (b / 6) := pk_div (by omega) (by decide) (by decide)
  have e2 : nI b - nI b / 6 * 6 = nI (b % 6) := pk_rem (by omega) (by decide) (by decide)
  refine ⟨by decide, ?_⟩
  intro s es
  rw [e1] at es
  subst es
  rw [e2, nI_clamp (by omega), hsN]
  refine pk_le N (b / 6) (fun q => ?_) (fun q => ?_)
  · refine k0 (fun z => ?_) 0 (by decide)
    rcases z with z | ⟨z1, z2, z3⟩ <;> omega
  · have d := hd _ q
    have hin : vp_in (nI (b / 6)) 24 := vp_in_nI (by omega) (by omega)
    refine ⟨by decide, hin, pk_lt (b % 6) (cl_n wd (b / 6)) (fun q2 => ⟨hin, ?_⟩) (fun q2 => ?_) rfl d.2.2.1 (by omega) (by have := d.2.2.2.2.1; omega)⟩
    · by_cases q3 : kd (b / 6) = 2
      · exact br_t q3 (k2 (Or.inr ⟨q, q2, q3⟩))
      · have ns : ¬ s2_b N kd wd b := fun z => by
          rcases z with z | ⟨z1, z2, z3⟩
          · omega
          · exact q3 z3
        refine br_f q3 ⟨hin, br_c (fun _ => k0 ns 1 (by decide)) (fun _ => k0 ns 0 (by decide))⟩
    · refine k0 (fun z => ?_) 0 (by decide)
      rcases z with z | ⟨z1, z2, z3⟩ <;> omega
theorem gk_first {post : Int32 → Prop} {N b : Nat} (hN : N ≤ 24) (hb : b < 160) (hd : ∀ t, t < N → df_s kd ox oy oz wd t) (h2 : s2_b N kd wd b) (k : post (nI (fv_b oy b).toNat)) : wpX_firstValueOf post (sN, sC, sW, pP, pD, pE, nc, tc, lV, bU, pL, wH, sE, kd, ox, oy, oz, wd, fo, su, rd, dp, nx, en, hS, wO, nO, nW, la, lb, nl, fl, eo, so, ne, io, td, tf, tb, vA, cH, mK, cA, sK) (nI b) := by
  unfold wpX_firstValueOf
  unfold fv_b at k
  refine pk_lt b 144 (fun h => ?_) (fun h => ?_)
  · rw [if_pos h] at k
    have e1 : nI b / 6 = nI (b / 6) := pk_div (by omega) (by decide) (by decide)
    have e2 : nI b - nI b / 6 * 6 = nI (b % 6) := pk_rem (by omega) (by decide) (by decide)
    rcases h2 with z | ⟨z1, z2, z3⟩
    · omega
    · have d := hd _ z1
      have y := d.2.2.2.2.2.2.2.2.1 (Or.inr ((df_k d (k := 2) (by decide)).mp z3))
      have y31 : cl_n oy (b / 6) < 2 ^ 31 := Nat.lt_of_lt_of_le y.2 (Nat.pow_le_pow_right (by decide) (by have := d.2.2.2.2.1; omega))
      refine ⟨by decide, by rw [e1]; exact vp_in_nI (by omega) (by omega), by decide, ?_⟩
      rw [e2, e1, nI_clamp (by omega), y.1, bx_sh y31 (by omega)]
      exact k
  · rw [if_neg (by omega)] at k
    exact k
theorem gk_noted {post : Int32 → Prop} {b : Nat} (hb : b < 160) (hv : sv_ok nO nW) (k : post (nI (sv_b nO nW b).toNat)) : wpX_notedValueOf post (sN, sC, sW, pP, pD, pE, nc, tc, lV, bU, pL, wH, sE, kd, ox, oy, oz, wd, fo, su, rd, dp, nx, en, hS, wO, nO, nW, la, lb, nl, fl, eo, so, ne, io, td, tf, tb, vA, cH, mK, cA, sK) (nI b) := by
  unfold wpX_notedValueOf
  unfold sv_b at k
  refine pk_lt b 144 (fun h => ?_) (fun h => ?_)
  · rw [if_pos h] at k
    have e1 : nI b / 6 = nI (b / 6) := pk_div (by omega) (by decide) (by decide)
    have e2 : nI b - nI b / 6 * 6 = nI (b % 6) := pk_rem (by omega) (by decide) (by decide)
    obtain ⟨z, ez, hz⟩ := hv.1 (b / 6) (by omega)
    refine ⟨by decide, by rw [e1]; exact vp_in_nI (by omega) (by omega), by decide, ?_⟩
    rw [e2, e1, nI_clamp (by omega), ez, bx_sh (by omega) (by omega)]
    rw [ez, nI_clamp (by omega)] at k
    exact k
  · rw [if_neg (by omega)] at k
    have e0 : nI b - 144 = nI (b - 144) := pk_sub (b := 144) h
    have e1 : nI (b - 144) >>> ((2 : Int32) &&& 31) = nI ((b - 144) / 4) := pk_shrN (by omega) _ 2 (by decide)
    have e2 : nI b &&& 3 = nI (b % 4) := pk_andN (by omega) 2 (by decide)
    obtain ⟨z, ez, hz⟩ := hv.2 ((b - 144) / 4) (by omega)
    refine ⟨by rw [e0, e1]; exact vp_in_nI (by omega) (by omega), ?_⟩
    rw [e0, e1, e2, nI_clamp (by omega), ez, bx_sh (by omega) (by omega)]
    rw [ez, nI_clamp (by omega)] at k
    exact k
theorem gk_poss {post : Int64 → Prop} {c : ga_C} {e : Int32} (he : ga_en c e) (K : ∀ x, (∀ w : Nat → Bool, (∀ n, n < ga_M c → ps_b (vA n) (w n) = true) → ps_b x (nb_lit w e) = true) → post x) : wpX_possibleAt post (sN, sC, sW, pP, pD, pE, nc, tc, lV, bU, pL, wH, sE, kd, ox, oy, oz, wd, fo, su, rd, dp, nx, en, hS, wO, nO, nW, la, lb, nl, fl, eo, so, ne, io, td, tf, tb, vA, cH, mK, cA, sK) e := by
  obtain ⟨m, rfl, h1, h2⟩ := he
  have e1 : nI m >>> ((1 : Int32) &&& 31) = nI (m / 2) := pk_shrN (by omega) _ 1 (by decide)
  have e2 : nI m &&& 1 = nI (m % 2) := pk_andN (by omega) (m := 1) 1 (by decide)
  unfold wpX_possibleAt
  rw [e1, e2, nI_clamp (by omega)]
  refine ⟨vp_in_nI (by omega) (by omega), ?_⟩
  intro x ex
  subst ex
  rcases Nat.mod_two_eq_zero_or_one m with z | z
  · refine br_t (by rw [z]; rfl) (K _ (fun w hw => ?_))
    have l : nb_lit w (nI m) = w (m / 2) := by
      rw [nb_litN w (by omega), z]; simp
    rw [l]
    exact hw _ (by omega)
  · refine br_f (by rw [z]; decide) (K _ (fun w hw => ?_))
    have l : nb_lit w (nI m) = !w (m / 2) := by
      rw [nb_litN w (by omega), z]; simp
    rw [l]
    exact ps_sw (hw _ (by omega))
end
end
section
/-! findStuck -/
theorem pc_mono {f g : Nat → Bool} : ∀ k, (∀ i, i < k → f i = true → g i = true) → pc_n f k ≤ pc_n g k := by
  intro k
  induction k with
  | zero => intro _; exact Nat.le_refl _
  | succ k ih =>
    intro h
    show pc_n f k + (f k).toNat ≤ pc_n g k + (g k).toNat
    have a := ih (fun i hi => h i (by omega))
    have b : (f k).toNat ≤ (g k).toNat := by
      have := h k (by omega)
      cases e : f k
      · exact Nat.zero_le _
      · rw [this e]; exact Nat.le_refl _
    omega
theorem pc_lt {f g : Nat → Bool} {j : Nat} : ∀ k, (∀ i, i < k → f i = true → g i = true) → j < k → g j = true → f j = false → pc_n f k < pc_n g k := by
  intro k
  induction k with
  | zero => intro _ h; omega
  | succ k ih =>
    intro h hj hg hf
    show pc_n f k + (f k).toNat < pc_n g k + (g k).toNat
    by_cases e : j = k
    · have a := pc_mono (f := f) (g := g) k (fun i hi => h i (by omega))
      rw [e] at hg hf
      rw [hg, hf]
      show _ + 0 < _ + 1
      omega
    · have a := ih (fun i hi => h i (by omega)) (by omega) hg hf
      have b : (f k).toNat ≤ (g k).toNat := by
        have := h k (by omega)
        cases e : f k
        · exact Nat.zero_le _
        · rw [this e]; exact Nat.le_refl _
      omega
/-- stuck bits have their values -/
def sc_w (so : Nat → Int32) (sK : Nat → Int64) (hS wO : Nat → Int32) (w : Nat → Bool) : Prop := ∀ b, b < 160 → so b ≠ -1 → st_b sK b = true → w (so b).toNatClampNeg = sv_b hS wO b
def pp_v (c : ga_C) (so : Nat → Int32) (sK : Nat → Int64) (hS wO : Nat → Int32) (vA : Nat → Int64) : Prop := ∀ w, ga_con c w → sc_w so sK hS wO w → ∀ n, n < ga_M c → ps_b (vA n) (w n) = true
section
variable {sN sC sW pP pD pE tc lV bU pL wH sE : Int32} {kd ox oy oz wd fo su rd dp nx en hS wO nO nW eo so ne io td tf tb : Nat → Int32} {cH mK cA sK : Nat → Int64}
theorem gk_95 {post : SX → Prop} {c : ga_C} {S B : Nat} (h : ga_ok c S B) (hr : S + B ≤ 355) (K : ∀ vA', pp_v c so sK hS wO vA' → post (sN, sC, sW, pP, pD, pE, c.1, tc, lV, bU, pL, wH, sE, kd, ox, oy, oz, wd, fo, su, rd, dp, nx, en, hS, wO, nO, nW, c.2.1, c.2.2.1, c.2.2.2.1, c.2.2.2.2, eo, so, ne, io, td, tf, tb, vA', cH, mK, cA, sK)) :
    ∀ (n i : Nat) (vA : Nat → Int64), ga_M c < n + i → 1 ≤ i → i ≤ ga_M c → pp_v c so sK hS wO vA → wX_spreadPossible_95 post sN sC sW pP pD pE c.1 tc lV bU pL wH sE n (nI i) kd ox oy oz wd fo su rd dp nx en hS wO nO nW c.2.1 c.2.2.1 c.2.2.2.1 c.2.2.2.2 eo so ne io td tf tb vA cH mK cA sK := by
  have hM := h.2.2.1
  intro n
  induction n with
  | zero => intro i vA h1 h2 h3; omega
  | succ n ih =>
    intro i vA h1 h2 h3 hI
    unfold wX_spreadPossible_95
    refine pk_le (ga_M c) i (fun hle => ?_) (fun hlt => ?_) h.1
    · exact K vA hI
    · have hin : vp_in (nI i) 360 := vp_in_nI (by omega) (by omega)
      have hc : (nI i).toNatClampNeg = i := nI_clamp (by omega)
      refine ⟨hin, ?_⟩
      rw [hc]
      rcases h.2.2.2.2.2.1 i hlt with z | ⟨a, b, z1, z2, z3, z4⟩
      · refine br_f (by rw [z]; decide) ?_
        intro y ey
        have e2 := ey.trans (nI_1 i)
        subst e2
        exact ih (i + 1) vA (by omega) (by omega) (by omega) hI
      · have zn : c.2.1 i ≠ -1 := by rw [z1]; exact nr_ne (by omega)
        refine br_t (by rw [z1]; exact nI_pos' (by omega)) ⟨hin, ?_⟩
        refine gk_poss (c := c) ⟨a, z1, by omega, by omega⟩ ?_
        intro x hx
        refine ⟨hin, ?_⟩
        refine gk_poss (c := c) ⟨b, z2, by omega, by omega⟩ ?_
        intro y hy
        refine ⟨hin, ?_⟩
        intro v' ev
        intro y' ey
        have e2 := ey.trans (nI_1 i)
        subst e2 ev
        refine ih (i + 1) _ (by omega) (by omega) (by omega) (fun w hw hs m hm => ?_)
        by_cases q : m = i
        · rw [q, pk_uLs, hw.2 i hlt zn]
          exact ps_an (hx w (hI w hw hs)) (hy w (hI w hw hs))
        · rw [pk_uLn q]
          exact hI w hw hs m hm
theorem gk_34 {post : SX → Prop} {c : ga_C} {S B : Nat} (h : ga_ok c S B) (hr : S + B ≤ 355) (hso : so_ok c so) (hv : sv_ok hS wO) (K : ∀ vA', pp_v c so sK hS wO vA' → post (sN, sC, sW, pP, pD, pE, c.1, tc, lV, bU, pL, wH, sE, kd, ox, oy, oz, wd, fo, su, rd, dp, nx, en, hS, wO, nO, nW, c.2.1, c.2.2.1, c.2.2.2.1, c.2.2.2.2, eo, so, ne, io, td, tf, tb, vA', cH, mK, cA, sK)) :
    ∀ (n i : Nat) (vA : Nat → Int64), 160 < n + i → i ≤ 160 → pp_v c so sK hS wO vA → wX_spreadPossible_34 post sN sC sW pP pD pE c.1 tc lV bU pL wH sE n (nI i) kd ox oy oz wd fo su rd dp nx en hS wO nO nW c.2.1 c.2.2.1 c.2.2.2.1 c.2.2.2.2 eo so ne io td tf tb vA cH mK cA sK := by
  have hM := h.2.2.1
  intro n
  induction n with
  | zero => intro i vA h1 h2; omega
  | succ n ih =>
    intro i vA h1 h2 hI
    unfold wX_spreadPossible_34
    refine pk_le 160 i (fun hle => ?_) (fun hlt => ?_)
    · exact ⟨ga_M c + 1, gk_95 h hr K (ga_M c + 1) 1 vA (by omega) (by omega) h.2.1 hI⟩
    · have hin : vp_in (nI i) 160 := vp_in_nI (by omega) (by omega)
      have hc : (nI i).toNatClampNeg = i := nI_clamp (by omega)
      have next : ∀ vA', pp_v c so sK hS wO vA' → ∀ y, y = nI i + 1 → wX_spreadPossible_34 post sN sC sW pP pD pE c.1 tc lV bU pL wH sE n y kd ox oy oz wd fo su rd dp nx en hS wO nO nW c.2.1 c.2.2.1 c.2.2.2.1 c.2.2.2.2 eo so ne io td tf tb vA' cH mK cA sK := by
        intro vA' hI' y ey
        have e2 := ey.trans (nI_1 i)
        subst e2
        exact ih (i + 1) vA' (by omega) (by omega) hI'
      refine ⟨hin, ?_⟩
      rw [hc]
      rcases hso.1 i hlt with z | ⟨m, z1, z2, z3, z4⟩
      · exact br_t (by rw [z]; decide) (next vA hI)
      · have zn : so i ≠ -1 := by rw [z1]; exact nr_ne (by omega)
        have zc : (so i).toNatClampNeg = m := by rw [z1]; exact nI_clamp (by omega)
        have zi : vp_in (so i) 360 := by rw [z1]; exact vp_in_nI (by omega) (by omega)
        refine br_f (by rw [z1]; exact nI_pos (by omega)) ?_
        refine gw_isStuck hlt (fun q => br_t rfl (next vA hI)) (fun q => br_f (by decide) ⟨hin, ?_⟩)
        refine gw_stateValue hlt hv ?_
        cases e : sv_b hS wO i
        · refine br_t rfl ⟨zi, ?_⟩
          intro v' ev
          rw [zc] at ev
          subst ev
          refine next _ (fun w hw hs k hk => ?_)
          by_cases q2 : k = m
          · have y := hs i hlt zn q
            rw [zc, e] at y
            rw [q2, pk_uLs, y]
            decide
          · rw [pk_uLn q2]; exact hI w hw hs k hk
        · refine br_f (by decide) ⟨zi, ?_⟩
          intro v' ev
          rw [zc] at ev
          subst ev
          refine next _ (fun w hw hs k hk => ?_)
          by_cases q2 : k = m
          · have y := hs i hlt zn q
            rw [zc, e] at y
            rw [q2, pk_uLs, y]
            decide
          · rw [pk_uLn q2]; exact hI w hw hs k hk
theorem gk_9 {post : SX → Prop} {c : ga_C} {S B : Nat} (h : ga_ok c S B) (hr : S + B ≤ 355) (hso : so_ok c so) (hv : sv_ok hS wO) (K : ∀ vA', pp_v c so sK hS wO vA' → post (sN, sC, sW, pP, pD, pE, c.1, tc, lV, bU, pL, wH, sE, kd, ox, oy, oz, wd, fo, su, rd, dp, nx, en, hS, wO, nO, nW, c.2.1, c.2.2.1, c.2.2.2.1, c.2.2.2.2, eo, so, ne, io, td, tf, tb, vA', cH, mK, cA, sK)) :
    ∀ (n i : Nat) (vA : Nat → Int64), ga_M c < n + i → 1 ≤ i → i ≤ ga_M c → vA 0 = 1 → (∀ j, 1 ≤ j → j < i → vA j = 3) → wX_spreadPossible_9 post sN sC sW pP pD pE c.1 tc lV bU pL wH sE n (nI i) kd ox oy oz wd fo su rd dp nx en hS wO nO nW c.2.1 c.2.2.1 c.2.2.2.1 c.2.2.2.2 eo so ne io td tf tb vA cH mK cA sK := by
  have hM := h.2.2.1
  intro n
  induction n with
  | zero => intro i vA h1 h2 h3; omega
  | succ n ih =>
    intro i vA h1 h2 h3 h0 hI
    unfold wX_spreadPossible_9
    refine pk_le (ga_M c) i (fun hle => ?_) (fun hlt => ?_) h.1
    · refine ⟨161, gk_34 h hr hso hv K 161 0 vA (by omega) (by omega) (fun w hw hs k hk => ?_)⟩
      by_cases q : k = 0
      · rw [q, h0, hw.1]; decide
      · rw [hI k (by omega) (by omega)]; exact ps_3 _
    · refine ⟨vp_in_nI (by omega) (by omega), ?_⟩
      intro v' ev
      rw [nI_clamp (by omega)] at ev
      intro y ey
      have e2 := ey.trans (nI_1 i)
      subst e2 ev
      refine ih (i + 1) _ (by omega) (by omega) (by omega) (by rw [pk_uLn (by omega)]; exact h0) (fun j h1 h2 => ?_)
      by_cases q : j = i
      · rw [q, pk_uLs]
      · rw [pk_uLn q]; exact hI j h1 (by omega)
variable {c : ga_C} {vA : Nat → Int64}
theorem gk_spread {post : SX → Prop} {S B : Nat} (h : ga_ok c S B) (hr : S + B ≤ 355) (hso : so_ok c so) (hv : sv_ok hS wO) (K : ∀ vA', pp_v c so sK hS wO vA' → post (sN, sC, sW, pP, pD, pE, c.1, tc, lV, bU, pL, wH, sE, kd, ox, oy, oz, wd, fo, su, rd, dp, nx, en, hS, wO, nO, nW, c.2.1, c.2.2.1, c.2.2.2.1, c.2.2.2.2, eo, so, ne, io, td, tf, tb, vA', cH, mK, cA, sK)) : wpX_spreadPossible post (sN, sC, sW, pP, pD, pE, c.1, tc, lV, bU, pL, wH, sE, kd, ox, oy, oz, wd, fo, su, rd, dp, nx, en, hS, wO, nO, nW, c.2.1, c.2.2.1, c.2.2.2.1, c.2.2.2.2, eo, so, ne, io, td, tf, tb, vA, cH, mK, cA, sK) := by
  unfold wpX_spreadPossible
  intro v' ev
  exact ⟨ga_M c + 1, gk_9 h hr hso hv K (ga_M c + 1) 1 v' (by omega) (by omega) h.2.1 (by rw [ev, pk_uLs]) (fun j h1 h2 => absurd h2 (by omega))⟩
end
section
variable {sN sC sW pP pD pE tc lV bU pL wH sE : Int32} {kd ox oy oz wd fo su rd dp nx en hS wO nO nW eo so ne io td tf tb : Nat → Int32} {cH mK cA : Nat → Int64}
theorem gk_91 {post : SX → Prop} {J : Int32 → Int32 → Int32 → Int32 → Int32 → Int32 → Int32 → Int32 → Int32 → Int32 → Int32 → Int32 → Int32 → Int32 → (Nat → Int32) → (Nat → Int32) → (Nat → Int32) → (Nat → Int32) → (Nat → Int32) → (Nat → Int32) → (Nat → Int32) → (Nat → Int32) → (Nat → Int32) → (Nat → Int32) → (Nat → Int32) → (Nat → Int32) → (Nat → Int32) → (Nat → Int32) → (Nat → Int32) → (Nat → Int32) → (Nat → Int32) → (Nat → Int32) → (Nat → Int32) → (Nat → Int32) → (Nat → Int32) → (Nat → Int32) → (Nat → Int32) → (Nat → Int32) → (Nat → Int32) → (Nat → Int32) → (Nat → Int64) → (Nat → Int64) → (Nat → Int64) → (Nat → Int64) → (Nat → Int64) → Prop} {c : ga_C} {vA : Nat → Int64} {sK0 : Nat → Int64} {S B : Nat} (h : ga_ok c S B) (hr : S + B ≤ 355) (hv : sv_ok hS wO) (hP : pp_v c so sK0 hS wO vA) (h2 : ∀ b, b < 160 → st_b sK0 b = true → ga_en c (ne b))
    (K : ∀ sK' x1, (∀ b, st_b sK' b = true → st_b sK0 b = true) → ((x1 = 0 ∧ (∀ b, st_b sK' b = st_b sK0 b) ∧ ∀ b, b < 160 → st_b sK0 b = true → ∀ w, ga_con c w → sc_w so sK0 hS wO w → nb_lit w (ne b) = sv_b hS wO b) ∨ (x1 = 1 ∧ ∃ j, j < 160 ∧ st_b sK0 j = true ∧ st_b sK' j = false)) → J x1 sN sC sW pP pD pE c.1 tc lV bU pL wH sE kd ox oy oz wd fo su rd dp nx en hS wO nO nW c.2.1 c.2.2.1 c.2.2.2.1 c.2.2.2.2 eo so ne io td tf tb vA cH mK cA sK') :
    ∀ (n i : Nat) (x1 : Int32) (sK : Nat → Int64), 160 < n + i → i ≤ 160 → (∀ b, st_b sK b = true → st_b sK0 b = true) → ((x1 = 0 ∧ (∀ b, st_b sK b = st_b sK0 b) ∧ ∀ b, b < i → st_b sK0 b = true → ∀ w, ga_con c w → sc_w so sK0 hS wO w → nb_lit w (ne b) = sv_b hS wO b) ∨ (x1 = 1 ∧ ∃ j, j < 160 ∧ st_b sK0 j = true ∧ st_b sK j = false)) →
      wX_findStuck_91 post J sN sC sW pP pD pE c.1 tc lV bU pL wH sE n x1 (nI i) kd ox oy oz wd fo su rd dp nx en hS wO nO nW c.2.1 c.2.2.1 c.2.2.2.1 c.2.2.2.2 eo so ne io td tf tb vA cH mK cA sK := by
  intro n
  induction n with
  | zero => intro i x1 sK h1 h2; omega
  | succ n ih =>
    intro i x1 sK h1 h3 hsub hI
    unfold wX_findStuck_91
    refine pk_le 160 i (fun hle => ?_) (fun hlt => ?_)
    · have e : i = 160 := by omega
      subst e
      exact K sK x1 hsub hI
    · have hin : vp_in (nI i) 160 := vp_in_nI (by omega) (by omega)
      have hc : (nI i).toNatClampNeg = i := nI_clamp (by omega)
      have keep : (st_b sK0 i = true → st_b sK i = true → ∀ w, ga_con c w → sc_w so sK0 hS wO w → nb_lit w (ne i) = sv_b hS wO i) → ∀ y, y = nI i + 1 → wX_findStuck_91 post J sN sC sW pP pD pE c.1 tc lV bU pL wH sE n x1 y kd ox oy oz wd fo su rd dp nx en hS wO nO nW c.2.1 c.2.2.1 c.2.2.2.1 c.2.2.2.2 eo so ne io td tf tb vA cH mK cA sK := by
        intro hcl y ey
        have e2 := ey.trans (nI_1 i)
        subst e2
        refine ih (i + 1) x1 sK (by omega) (by omega) hsub ?_
        rcases hI with ⟨a1, a2, a3⟩ | ⟨a1, a2⟩
        · refine Or.inl ⟨a1, a2, fun b hb hs => ?_⟩
          by_cases q : b = i
          · rw [q] at hs ⊢
            exact hcl hs (by rw [a2]; exact hs)
          · exact a3 b (by omega) hs
        · exact Or.inr ⟨a1, a2⟩
      refine gw_isStuck hlt (fun q => br_t rfl (keep (fun _ z => by rw [q] at z; exact Bool.noConfusion z))) (fun q => br_f (by decide) ?_)
      refine gw_stateValue hlt hv ?_
      refine ⟨hin, ?_⟩
      rw [hc]
      refine gk_poss (c := c) (h2 i hlt (hsub i q)) ?_
      intro x hx
      have clear : ∀ z0 : Int64, ¬ x = z0 → wX_findStuck_140 post J (wX_findStuck_91 post J sN sC sW pP pD pE c.1 tc lV bU pL wH sE n) x1 (nI i) z0 x sN sC sW pP pD pE c.1 tc lV bU pL wH sE kd ox oy oz wd fo su rd dp nx en hS wO nO nW c.2.1 c.2.2.1 c.2.2.2.1 c.2.2.2.2 eo so ne io td tf tb vA cH mK cA sK := by
        intro z0 hz
        unfold wX_findStuck_140
        have e6 : vp_in (nI i >>> ((6 : Int32) &&& 31)) 3 := by rw [st_sh (by omega)]; exact vp_in_nI (by omega) (by omega)
        refine br_f hz ⟨e6, e6, ?_⟩
        intro s' es
        rw [st_sh (by omega), st_an (by omega), nI_clamp (by omega)] at es
        intro y ey
        have e2 := ey.trans (nI_1 i)
        subst e2 es
        refine ih (i + 1) 1 _ (by omega) (by omega) (fun b hb => ?_) (Or.inr ⟨rfl, i, hlt, hsub i q, ?_⟩)
        · rw [st_clr] at hb
          exact hsub b (by cases z : st_b sK b <;> simp_all)
        · rw [st_clr]; simp
      have same : ∀ z0 : Int64, x = z0 → (∀ v : Bool, ps_b z0 v = true → v = sv_b hS wO i) → wX_findStuck_140 post J (wX_findStuck_91 post J sN sC sW pP pD pE c.1 tc lV bU pL wH sE n) x1 (nI i) z0 x sN sC sW pP pD pE c.1 tc lV bU pL wH sE kd ox oy oz wd fo su rd dp nx en hS wO nO nW c.2.1 c.2.2.1 c.2.2.2.1 c.2.2.2.2 eo so ne io td tf tb vA cH mK cA sK := by
        intro z0 hz hv'
        unfold wX_findStuck_140
        refine br_t hz (keep (fun _ _ w hw hs => hv' _ (by rw [← hz]; exact hx w (hP w hw hs))))
      cases e : sv_b hS wO i
      · refine br_t rfl ?_
        by_cases z : x = 1
        · exact same 1 z (fun v hv' => by rw [e]; exact ps_1 hv')
        · exact clear 1 z
      · refine br_f (by decide) ?_
        by_cases z : x = 2
        · exact same 2 z (fun v hv' => by rw [e]; exact ps_2 hv')
        · exact clear 2 z
theorem gk_79 {post : SX → Prop} {c : ga_C} {S B : Nat} {R : Nat → Prop} (h : ga_ok c S B) (hr : S + B ≤ 355) (hso : so_ok c so) (hv : sv_ok hS wO) (hR : ∀ b, b < 160 → R b → ga_en c (ne b))
    (K : ∀ vA' sK', (∀ b, b < 160 → st_b sK' b = true → R b) → (∀ b, b < 160 → st_b sK' b = true → ∀ w, ga_con c w → sc_w so sK' hS wO w → nb_lit w (ne b) = sv_b hS wO b) → post (sN, sC, sW, pP, pD, pE, c.1, tc, lV, bU, pL, wH, sE, kd, ox, oy, oz, wd, fo, su, rd, dp, nx, en, hS, wO, nO, nW, c.2.1, c.2.2.1, c.2.2.2.1, c.2.2.2.2, eo, so, ne, io, td, tf, tb, vA', cH, mK, cA, sK')) :
    ∀ (n : Nat) (vA sK : Nat → Int64), pc_n (st_b sK) 160 + 1 < n → (∀ b, b < 160 → st_b sK b = true → R b) → wX_findStuck_79 post n 1 sN sC sW pP pD pE c.1 tc lV bU pL wH sE kd ox oy oz wd fo su rd dp nx en hS wO nO nW c.2.1 c.2.2.1 c.2.2.2.1 c.2.2.2.2 eo so ne io td tf tb vA cH mK cA sK := by
  intro n
  induction n with
  | zero => intro vA sK h1; omega
  | succ n ih =>
    intro vA sK h1 hI
    unfold wX_findStuck_79
    refine br_f (by decide) ?_
    refine gk_spread h hr hso hv ?_
    intro vA' hP
    refine ⟨161, gk_91 (sK0 := sK) h hr hv hP (fun b hb hs => hR b hb (hI b hb hs)) ?_ 161 0 0 sK (by omega) (by omega) (fun b hb => hb) (Or.inl ⟨rfl, fun _ => rfl, fun b hb => absurd hb (by omega)⟩)⟩
    intro sK' x1 hsub hx
    rcases hx with ⟨rfl, a2, a3⟩ | ⟨rfl, j, j1, j2, j3⟩
    · obtain ⟨m, rfl⟩ : ∃ m, n = m + 1 := ⟨n - 1, by omega⟩
      unfold wX_findStuck_79
      refine br_t rfl (K vA' sK' (fun b hb hs => hI b hb (hsub b hs)) (fun b hb hs w hw hsc => a3 b hb (hsub b hs) w hw (fun b' hb' n' s' => hsc b' hb' n' (by rw [a2]; exact s'))))
    · have lt := pc_lt (f := st_b sK') (g := st_b sK) 160 (fun i _ => hsub i) j1 j2 j3
      exact ih vA' sK' (by omega) (fun b hb hs => hI b hb (hsub b hs))
theorem gk_10 {post : SX → Prop} {c : ga_C} {vA : Nat → Int64} {N : Nat} (hN : N ≤ 24) (hsN : sN = nI N) (hd : ∀ t, t < N → df_s kd ox oy oz wd t) (hv : sv_ok hS wO) (hn : sv_ok nO nW)
    (K : ∀ sK', (∀ b, b < 160 → st_b sK' b = true → s2_b N kd wd b ∧ sv_b hS wO b = fv_b oy b ∧ sv_b nO nW b = fv_b oy b) → ∃ n, wX_findStuck_79 post n 1 sN sC sW pP pD pE c.1 tc lV bU pL wH sE kd ox oy oz wd fo su rd dp nx en hS wO nO nW c.2.1 c.2.2.1 c.2.2.2.1 c.2.2.2.2 eo so ne io td tf tb vA cH mK cA sK') :
    ∀ (n i : Nat) (sK : Nat → Int64), 160 < n + i → i ≤ 160 → (∀ b, b < 160 → st_b sK b = true → s2_b N kd wd b ∧ sv_b hS wO b = fv_b oy b ∧ sv_b nO nW b = fv_b oy b) → wX_findStuck_10 post sN sC sW pP pD pE c.1 tc lV bU pL wH sE n (nI i) kd ox oy oz wd fo su rd dp nx en hS wO nO nW c.2.1 c.2.2.1 c.2.2.2.1 c.2.2.2.2 eo so ne io td tf tb vA cH mK cA sK := by
  intro n
  induction n with
  | zero => intro i sK h1 h2; omega
  | succ n ih =>
    intro i sK h1 h2 hI
    unfold wX_findStuck_10
    refine pk_le 160 i (fun hle => K sK hI) (fun hlt => ?_)
    have next : ∀ y, y = nI i + 1 → wX_findStuck_10 post sN sC sW pP pD pE c.1 tc lV bU pL wH sE n y kd ox oy oz wd fo su rd dp nx en hS wO nO nW c.2.1 c.2.2.1 c.2.2.2.1 c.2.2.2.2 eo so ne io td tf tb vA cH mK cA sK := by
      intro y ey
      have e2 := ey.trans (nI_1 i)
      subst e2
      exact ih (i + 1) sK (by omega) (by omega) hI
    have nB : ∀ a b : Bool, nI a.toNat = nI b.toNat → a = b := by
      intro a b
      cases a <;> cases b <;> intro e
      · rfl
      · exact absurd e (by decide)
      · exact absurd e (by decide)
      · rfl
    refine gk_sort hN hsN hlt hd (fun q => br_t rfl ?_) (fun q r hr => br_f hr next)
    refine gw_stateValue hlt hv ?_
    refine gk_first hN hlt hd q ?_
    refine br_c (fun e1 => ?_) (fun _ => next)
    refine gk_noted hlt hn ?_
    refine br_c (fun e2 => ?_) (fun _ => next)
    have e6 : vp_in (nI i >>> ((6 : Int32) &&& 31)) 3 := by rw [st_sh (by omega)]; exact vp_in_nI (by omega) (by omega)
    refine ⟨e6, e6, ?_⟩
    intro s' es
    rw [st_sh (by omega), st_an (by omega), nI_clamp (by omega)] at es
    intro y ey
    have e3 := ey.trans (nI_1 i)
    subst e3 es
    refine ih (i + 1) _ (by omega) (by omega) (fun b hb hs => ?_)
    rw [st_set] at hs
    by_cases q2 : b = i
    · rw [q2]
      exact ⟨q, nB _ _ e1, by rw [← nB _ _ e2]; exact nB _ _ e1⟩
    · exact hI b hb (by simpa [q2] using hs)
end
section
variable {sN sC sW pP pD pE nc tc lV bU pL wH sE : Int32} {kd ox oy oz wd fo su rd dp nx en hS wO nO nW la lb nl fl eo so ne io td tf tb : Nat → Int32} {vA cH mK cA sK : Nat → Int64}
/-- findStuck: gates in which nothing is stuck, and a closed set of stuck bits -/
theorem gk_find {post : SX → Prop} {N : Nat} (hN : N ≤ 24) (hsN : sN = nI N) (hd : ∀ t, t < N → df_s kd ox oy oz wd t) (hfo : fo_ok fo wd N) (hcn : cn_ok kd wd nx en N) (hpt : pt_ok wd pP pD pE N) (hv : sv_ok hS wO) (hn : sv_ok nO nW)
    (hh : hs_n kd wd N ≤ 60) (hb : gc_n kd ox wd N + nc_n kd wd N ≤ 220)
    (K : ∀ (c : ga_C) eo' so' ne' vA' sK0 sK', (∀ b, b < 160 → st_b sK0 b = false) → mg_ok N kd ox oy oz wd fo nx en pP pD pE sK0 (fun _ => false) c eo' so' ne' →
      (∀ b, b < 160 → st_b sK' b = true → s2_b N kd wd b ∧ sv_b hS wO b = fv_b oy b ∧ sv_b nO nW b = fv_b oy b) →
      (∀ b, b < 160 → st_b sK' b = true → ∀ w, ga_con c w → sc_w so' sK' hS wO w → nb_lit w (ne' b) = sv_b hS wO b) → post (sN, sC, sW, pP, pD, pE, c.1, tc, lV, bU, pL, wH, sE, kd, ox, oy, oz, wd, fo, su, rd, dp, nx, en, hS, wO, nO, nW, c.2.1, c.2.2.1, c.2.2.2.1, c.2.2.2.2, eo', so', ne', io, td, tf, tb, vA', cH, mK, cA, sK')) : wpX_findStuck post (sN, sC, sW, pP, pD, pE, nc, tc, lV, bU, pL, wH, sE, kd, ox, oy, oz, wd, fo, su, rd, dp, nx, en, hS, wO, nO, nW, la, lb, nl, fl, eo, so, ne, io, td, tf, tb, vA, cH, mK, cA, sK) := by
  unfold wpX_findStuck
  refine gk_clr ?_
  intro sK0 h0
  refine gs_gates (fv := fun _ => false) hN hsN hd hfo hcn hpt hv (fun b hb z => by rw [h0 b (by omega)] at z; exact Bool.noConfusion z) hh hb ?_
  intro c eo' so' ne' m
  have hen : ∀ b, b < 160 → s2_b N kd wd b → ga_en c (ne' b) := by
    intro b hb z
    rcases z with z | ⟨z1, z2, z3⟩
    · have := m.2.2.2.1 ((b - 144) / 4) (b % 4) (by omega) (by omega)
      rw [show 144 + 4 * ((b - 144) / 4) + b % 4 = b from by omega] at this
      exact this
    · have := m.2.2.1 (b / 6) z1 z3 (b % 6) z2
      rw [show 6 * (b / 6) + b % 6 = b from by omega] at this
      exact this
  refine ⟨161, gk_10 (c := c) hN hsN hd hv hn ?_ 161 0 sK0 (by omega) (by omega) (fun b hb z => by rw [h0 b (by omega)] at z; exact Bool.noConfusion z)⟩
  intro sK1 h1
  have b1 := pc_le (st_b sK1) 160
  refine ⟨200, gk_79 (R := fun b => s2_b N kd wd b ∧ sv_b hS wO b = fv_b oy b ∧ sv_b nO nW b = fv_b oy b) m.1 (by omega) m.2.1.1 hv (fun b hb z => hen b hb z.1) ?_ 200 vA sK1 (by omega) h1⟩
  intro vA' sK' x1 x2
  exact K c eo' so' ne' vA' sK0 sK' (fun b hb => h0 b (by omega)) m x1 x2
end
end
section
/-! the stuck bits are closed under the next-state function -/
def sg_st (σ : Nat → Bool) (wd : Nat → Int32) (s : Nat) : Nat := nb_n (fun i => σ (6 * s + i)) (cl_n wd s)
def sg_me (σ : Nat → Bool) (p : Nat) : Nat := nb_n (fun i => σ (144 + 4 * p + i)) 4
def nx_b (nx en : Nat → Int32) (pP pD pE : Int32) (wd : Nat → Int32) (σ : Nat → Bool) (v : Nat → Nat) (b : Nat) : Bool :=
  if b < 144 then (nx_s nx en (sg_st σ wd) v (b / 6)).testBit (b % 6) else (nx_m pP pD pE (sg_me σ) v ((b - 144) / 4)).testBit (b % 4)
def st_cl (N : Nat) (kd ox oy oz wd fo nx en : Nat → Int32) (pP pD pE : Int32) (sK : Nat → Int64) : Prop :=
  ∀ (σ : Nat → Bool) (v : Nat → Nat), (∀ b, b < 160 → st_b sK b = true → σ b = fv_b oy b) → sl_s N kd ox oy oz wd fo (sg_st σ wd) (sg_me σ) v → ∀ b, b < 160 → st_b sK b = true → nx_b nx en pP pD pE wd σ v b = fv_b oy b
theorem nx_cg {kd wd nx en : Nat → Int32} {N s : Nat} {st st' v v' : Nat → Nat} (hN : N ≤ 24) (h : cn_ok kd wd nx en N) (hs : s < N) (hk : kd s = 2) (h1 : st s = st' s) (h2 : ∀ t, t < N → v t = v' t) : nx_s nx en st v s = nx_s nx en st' v' s := by
  obtain ⟨a, b⟩ := h s hs hk
  unfold nx_s
  rcases a with z | ⟨t, t1, t2, t3⟩
  · rw [if_pos z, if_pos z, h1]
  · have e1 : cl_n nx s = t := by show (nx s).toNatClampNeg = t; rw [t1]; exact nI_clamp (by omega)
    rw [e1, h2 t t2, h1]
    rcases b with z | ⟨u, u1, u2, u3⟩
    · simp [z]
    · have e2 : cl_n en s = u := by show (en s).toNatClampNeg = u; rw [u1]; exact nI_clamp (by omega)
      rw [e2, h2 u u2]
theorem nm_cg {wd : Nat → Int32} {pP pD pE : Int32} {N p : Nat} {mem mem' v v' : Nat → Nat} (hN : N ≤ 24) (h : pt_ok wd pP pD pE N) (h1 : mem p = mem' p) (h2 : ∀ t, t < N → v t = v' t) : nx_m pP pD pE mem v p = nx_m pP pD pE mem' v' p := by
  unfold nx_m
  rcases h with z | ⟨q, d, e, z1, z2, z3, z4, z5, z6, z7⟩
  · rw [if_pos z, if_pos z, h1]
  · rw [z1, z2, z3, nI_clamp (by omega), nI_clamp (by omega), nI_clamp (by omega), h2 q z4, h2 d z5, h2 e z6, h1]
/-- a valuation with given state bits -/
theorem mg_val {N : Nat} {kd ox oy oz wd fo nx en : Nat → Int32} {pP pD pE : Int32} {sK : Nat → Int64} {fv : Nat → Bool} {c : ga_C} {eo so ne : Nat → Int32} (m : mg_ok N kd ox oy oz wd fo nx en pP pD pE sK fv c eo so ne) (σ : Nat → Bool) (hσ : ∀ b, b < 160 → st_b sK b = true → σ b = fv b) :
    ∃ w, ga_con c w ∧ ∀ b, b < 160 → lv_b kd wd N b → sg_w w so fv b = σ b := by
  obtain ⟨m1, ⟨m2, m3, m4, m5⟩, -⟩ := m
  have hM := m1.2.2.1
  obtain ⟨w, hw, hf⟩ := ga_eval m1 (by omega) (fun n => @decide (∃ b, b < 160 ∧ so b = nI n ∧ σ b = true) (Classical.propDecidable _))
  refine ⟨w, hw, fun b hb hl => ?_⟩
  have q := (m3 b hb).1 hl
  by_cases z : so b = -1
  · rw [sg_0 z, hσ b hb (q.mp z)]
  · rcases m2.1 b hb with y | ⟨n, y1, y2, y3, y4⟩
    · exact absurd y z
    · rw [sg_n y1 (by omega), hf n y2 y3 y4]
      by_cases e : σ b = true
      · rw [e]
        exact @decide_eq_true _ (Classical.propDecidable _) ⟨b, hb, y1, e⟩
      · have e' : σ b = false := by simpa using e
        rw [e']
        refine @decide_eq_false _ (Classical.propDecidable _) ?_
        rintro ⟨b', hb', s1, s2⟩
        have : b = b' := m2.2 b b' hb hb' z (by rw [y1, s1])
        rw [← this] at s2
        exact e s2
/-- for a valuation the state is what the bits say -/
theorem mg_st {N : Nat} {kd wd : Nat → Int32} {w : Nat → Bool} {so : Nat → Int32} {fv σ : Nat → Bool} (hW : ∀ t, t < N → cl_n wd t ≤ 6) (hN : N ≤ 24) (h : ∀ b, b < 160 → lv_b kd wd N b → sg_w w so fv b = σ b) :
    (∀ s, s < N → kd s = 0 ∨ kd s = 2 → stw_n w so fv wd s = sg_st σ wd s) ∧ ∀ p, p < 4 → mew_n w so fv p = sg_me σ p := by
  refine ⟨fun s hs hk => nb_cg _ (fun i hi => ?_), fun p hp => nb_cg _ (fun i hi => h _ (by omega) (Or.inl (by omega)))⟩
  have w6 := hW s hs
  have e1 : (6 * s + i) / 6 = s := by omega
  have e2 : (6 * s + i) % 6 = i := by omega
  exact h _ (by omega) (Or.inr ⟨by omega, by rw [e1, e2]; exact hi, by rw [e1]; exact hk⟩)
theorem mg_nx {N : Nat} {kd ox oy oz wd fo nx en : Nat → Int32} {pP pD pE : Int32} {sK : Nat → Int64} {fv : Nat → Bool} {c : ga_C} {eo so ne : Nat → Int32} (hN : N ≤ 24) (hd : ∀ t, t < N → df_s kd ox oy oz wd t) (hcn : cn_ok kd wd nx en N) (hpt : pt_ok wd pP pD pE N)
    (m : mg_ok N kd ox oy oz wd fo nx en pP pD pE sK fv c eo so ne) {σ : Nat → Bool} {v : Nat → Nat} {w : Nat → Bool} (hw : ga_con c w) (hσ : ∀ b, b < 160 → lv_b kd wd N b → sg_w w so fv b = σ b) (hv : sl_s N kd ox oy oz wd fo (sg_st σ wd) (sg_me σ) v) :
    (∀ t, t < N → vw_n w eo t (cl_n wd t) = v t) ∧ ∀ b, b < 160 → s2_b N kd wd b → nb_lit w (ne b) = nx_b nx en pP pD pE wd σ v b := by
  have hst := mg_st (fun t ht => (hd t ht).2.2.2.2.1) hN hσ
  have e : ∀ t, t < N → vw_n w eo t (cl_n wd t) = v t := sl_u hd hst.1 hst.2 (m.2.1.2.2.2 w hw) hv
  refine ⟨e, fun b hb h2 => ?_⟩
  unfold nx_b
  rcases h2 with z | ⟨z1, z2, z3⟩
  · rw [if_neg (by omega)]
    have := m.2.2.2.2.2 w hw ((b - 144) / 4) (b % 4) (by omega) (by omega)
    rw [show 144 + 4 * ((b - 144) / 4) + b % 4 = b from by omega] at this
    rw [this, nm_cg hN hpt (hst.2 _ (by omega)) e]
  · have w6 := (hd _ z1).2.2.2.2.1
    rw [if_pos (by omega)]
    have := m.2.2.2.2.1 w hw (b / 6) z1 z3 (b % 6) z2
    rw [show 6 * (b / 6) + b % 6 = b from by omega] at this
    rw [this, nx_cg hN hcn z1 z3 (hst.1 _ z1 (Or.inr z3)) e]
theorem cl_mk {N : Nat} {kd ox oy oz wd fo nx en hS wO : Nat → Int32} {pP pD pE : Int32} {sK0 sK : Nat → Int64} {fv : Nat → Bool} {c : ga_C} {eo so ne : Nat → Int32} (hN : N ≤ 24) (hd : ∀ t, t < N → df_s kd ox oy oz wd t) (hcn : cn_ok kd wd nx en N) (hpt : pt_ok wd pP pD pE N)
    (h0 : ∀ b, b < 160 → st_b sK0 b = false) (m : mg_ok N kd ox oy oz wd fo nx en pP pD pE sK0 fv c eo so ne) (hR : ∀ b, b < 160 → st_b sK b = true → s2_b N kd wd b ∧ sv_b hS wO b = fv_b oy b)
    (hc : ∀ b, b < 160 → st_b sK b = true → ∀ w, ga_con c w → sc_w so sK hS wO w → nb_lit w (ne b) = sv_b hS wO b) : st_cl N kd ox oy oz wd fo nx en pP pD pE sK := by
  intro σ v hσ hv b hb hs
  obtain ⟨w, hw, hl⟩ := mg_val m σ (fun b hb z => by rw [h0 b hb] at z; exact Bool.noConfusion z)
  have q := (mg_nx hN hd hcn hpt m hw hl hv).2 b hb (hR b hb hs).1
  rw [← q, hc b hb hs w hw ?_]
  · exact (hR b hb hs).2
  · intro b' hb' n' s'
    have r := hR b' hb' s'
    have l := hl b' hb' (s2_lv r.1)
    rw [r.2, ← hσ b' hb' s', ← l]
    unfold sg_w
    rw [if_neg n']
end
section
/-! chooseInputs: every gate gets inputs that cut it off -/
def iv_n (io : Nat → Int32) (n : Nat) : Prop := ∀ i, i < 4 → io (4 * n + i) = -1 ∨ ∃ m, io (4 * n + i) = nI m ∧ m < n
def in_s (io : Nat → Int32) (n m : Nat) : Prop := ∃ i, i < 4 ∧ io (4 * n + i) = nI m
def fr_4 (n : Nat) (io io' : Nat → Int32) : Prop := ∀ j, (j < 4 * n ∨ 4 * n + 4 ≤ j) → io' j = io j
def cl_4 (io : Nat → Int32) (n : Nat) : Nat → Int32 := fun j => if 4 * n ≤ j ∧ j < 4 * n + 4 then -1 else io j
/-- a leg is an input, or all its inputs are -/
def lg_in (c : ga_C) (io : Nat → Int32) (n l : Nat) : Prop := in_s io n l ∨ (c.2.1 l ≠ -1 ∧ ∀ m, m < 360 → in_s io l m → in_s io n m)
def in_ok (c : ga_C) (io : Nat → Int32) (n : Nat) : Prop := iv_n io n ∧ (c.2.1 n ≠ -1 → lg_in c io n ((c.2.1 n).toNatClampNeg / 2) ∧ lg_in c io n ((c.2.2.1 n).toNatClampNeg / 2))
theorem fr_4r (n : Nat) (io : Nat → Int32) : fr_4 n io io := fun _ _ => rfl
theorem fr_4t {n : Nat} {a b d : Nat → Int32} (h : fr_4 n a b) (g : fr_4 n b d) : fr_4 n a d := fun j hj => (g j hj).trans (h j hj)
theorem cl_fr {n : Nat} {io io' : Nat → Int32} (h : fr_4 n io io') : cl_4 io' n = cl_4 io n := by
  funext j
  unfold cl_4
  by_cases q : 4 * n ≤ j ∧ j < 4 * n + 4
  · rw [if_pos q, if_pos q]
  · rw [if_neg q, if_neg q, h j (by omega)]
theorem cl_f4 (n : Nat) (io : Nat → Int32) : fr_4 n io (cl_4 io n) := fun j hj => if_neg (by omega)
theorem cl_m1 (n : Nat) (io : Nat → Int32) {i : Nat} (hi : i < 4) : cl_4 io n (4 * n + i) = -1 := if_pos (by omega)
theorem cl_iv (n : Nat) (io : Nat → Int32) : iv_n (cl_4 io n) n := fun i hi => Or.inl (cl_m1 n io hi)
theorem in_fr {n k m : Nat} {io io' : Nat → Int32} (h : fr_4 n io io') (hk : k ≠ n) : in_s io' k m ↔ in_s io k m := by
  unfold in_s
  constructor
  · rintro ⟨i, hi, e⟩
    exact ⟨i, hi, by rw [← h _ (by omega)]; exact e⟩
  · rintro ⟨i, hi, e⟩
    exact ⟨i, hi, by rw [h _ (by omega)]; exact e⟩
section
variable {sN sC sW pP pD pE tc lV bU pL wH sE : Int32} {kd ox oy oz wd fo su rd dp nx en hS wO nO nW eo so ne td tf tb : Nat → Int32} {vA cH mK cA sK : Nat → Int64}
variable {c : ga_C}
theorem gi_ix {n i : Nat} : (4 * nI n) + nI i = nI (4 * n + i) := by
  rw [show 4 * nI n = nI (4 * n) from pk_mul 4 n, nI_add]
theorem gi_add2 {n f : Nat} {io : Nat → Int32} (hn : n < 360) (hf : f < 360) (hv : iv_n io n) : ∀ d i, i + d = 4 → ∃ r io', ((r = 1 ∧ ∃ k, k < 4 ∧ io' = upd io (4 * n + k) (nI f) ∧ (io (4 * n + k) = -1 ∨ io (4 * n + k) = nI f)) ∨ (r = 0 ∧ io' = io ∧ ∀ j, i ≤ j → j < 4 → io (4 * n + j) ≠ -1)) ∧
    ∀ post : Int32 → SX → Prop, post r (sN, sC, sW, pP, pD, pE, c.1, tc, lV, bU, pL, wH, sE, kd, ox, oy, oz, wd, fo, su, rd, dp, nx, en, hS, wO, nO, nW, c.2.1, c.2.2.1, c.2.2.2.1, c.2.2.2.2, eo, so, ne, io', td, tf, tb, vA, cH, mK, cA, sK) → wX_addInput_2 post (nI n) (nI f) sN sC sW pP pD pE c.1 tc lV bU pL wH sE kd ox oy oz wd fo su rd dp nx en hS wO nO nW c.2.1 c.2.2.1 c.2.2.2.1 c.2.2.2.2 eo so ne io td tf tb vA cH mK cA sK (d + 1) (nI i) := by
  intro d
  induction d with
  | zero =>
    intro i hi
    refine ⟨0, io, Or.inr ⟨rfl, rfl, fun j h1 h2 => by omega⟩, fun post k => ?_⟩
    unfold wX_addInput_2
    exact br_t (nI_le (a := 4) (by omega) (by omega)) k
  | succ d ih =>
    intro i hi
    have hin : vp_in ((4 * nI n) + nI i) 1440 := by rw [gi_ix]; exact vp_in_nI (by omega) (by omega)
    have hc : ((4 * nI n) + nI i).toNatClampNeg = 4 * n + i := by rw [gi_ix]; exact nI_clamp (by omega)
    have h4 : ¬ (4 : Int32) ≤ nI i := nI_ge (b := 4) (by omega) (by omega)
    by_cases q : io (4 * n + i) = nI f
    · refine ⟨1, io, Or.inl ⟨rfl, i, by omega, ?_, Or.inr q⟩, fun post k => ?_⟩
      · funext j
        by_cases e : j = 4 * n + i
        · rw [e, pk_us]; exact q
        · rw [pk_un e]
      · unfold wX_addInput_2
        refine br_f h4 ⟨hin, ?_⟩
        intro x ex
        rw [hc, q] at ex
        exact br_t ex k
    · rcases hv i (by omega) with z | ⟨m, z1, z2⟩
      · refine ⟨1, upd io (4 * n + i) (nI f), Or.inl ⟨rfl, i, by omega, rfl, Or.inl z⟩, fun post k => ?_⟩
        unfold wX_addInput_2
        refine br_f h4 ⟨hin, ?_⟩
        intro x ex
        rw [hc, z] at ex
        subst ex
        refine br_f (fun y => q (z.trans y)) (br_t (by decide) ⟨hin, ?_⟩)
        intro io' eio
        rw [hc, nr_s (by omega)] at eio
        rw [eio]
        exact k
      · obtain ⟨r, io', h, hp⟩ := ih (i + 1) (by omega)
        refine ⟨r, io', ?_, fun post k => ?_⟩
        · rcases h with h | ⟨h1, h2, h3⟩
          · exact Or.inl h
          · refine Or.inr ⟨h1, h2, fun j j1 j2 => ?_⟩
            by_cases e : j = i
            · rw [e, z1]; exact nr_ne (by omega)
            · exact h3 j (by omega) j2
        · unfold wX_addInput_2
          refine br_f h4 ⟨hin, ?_⟩
          intro x ex
          rw [hc] at ex
          subst ex
          refine br_f q (br_f (by rw [z1]; exact nI_pos (by omega)) ?_)
          intro y ey
          have e2 := ey.trans (nI_1 i)
          subst e2
          exact hp post k
theorem gi_add {n f : Nat} {io : Nat → Int32} (hn : n < 360) (hf : f < 360) (hv : iv_n io n) : ∃ r io', ((r = 1 ∧ ∃ k, k < 4 ∧ io' = upd io (4 * n + k) (nI f) ∧ (io (4 * n + k) = -1 ∨ io (4 * n + k) = nI f)) ∨ (r = 0 ∧ io' = io ∧ ∀ j, j < 4 → io (4 * n + j) ≠ -1)) ∧
    ∀ post : Int32 → SX → Prop, post r (sN, sC, sW, pP, pD, pE, c.1, tc, lV, bU, pL, wH, sE, kd, ox, oy, oz, wd, fo, su, rd, dp, nx, en, hS, wO, nO, nW, c.2.1, c.2.2.1, c.2.2.2.1, c.2.2.2.2, eo, so, ne, io', td, tf, tb, vA, cH, mK, cA, sK) → wpX_addInput post (sN, sC, sW, pP, pD, pE, c.1, tc, lV, bU, pL, wH, sE, kd, ox, oy, oz, wd, fo, su, rd, dp, nx, en, hS, wO, nO, nW, c.2.1, c.2.2.1, c.2.2.2.1, c.2.2.2.2, eo, so, ne, io, td, tf, tb, vA, cH, mK, cA, sK) (nI n) (nI f) := by
  obtain ⟨r, io', h, hp⟩ := gi_add2 (c := c) hn hf hv 4 0 rfl
  refine ⟨r, io', ?_, fun post k => ?_⟩
  · rcases h with h | ⟨h1, h2, h3⟩
    · exact Or.inl h
    · exact Or.inr ⟨h1, h2, fun j hj => h3 j (by omega) hj⟩
  · unfold wpX_addInput
    exact ⟨5, hp post k⟩
end
/-- what one input more does -/
theorem ai_ok {n f k : Nat} {io : Nat → Int32} (hf : f < n) (hn : n < 360) (hk : k < 4) (hv : iv_n io n) (h : io (4 * n + k) = -1 ∨ io (4 * n + k) = nI f) : fr_4 n io (upd io (4 * n + k) (nI f)) ∧ iv_n (upd io (4 * n + k) (nI f)) n ∧ in_s (upd io (4 * n + k) (nI f)) n f ∧ ∀ m, m < 360 → in_s io n m → in_s (upd io (4 * n + k) (nI f)) n m := by
  refine ⟨fun j hj => pk_un (by omega), fun i hi => ?_, ⟨k, hk, pk_us⟩, ?_⟩
  · by_cases e : i = k
    · rw [e, pk_us]; exact Or.inr ⟨f, rfl, hf⟩
    · rw [pk_un (by omega)]; exact hv i hi
  · rintro m hm ⟨i, hi, e⟩
    by_cases q : i = k
    · rw [q] at e
      rcases h with h | h
      · rw [e] at h
        exact absurd h (nr_ne (by omega))
      · exact ⟨k, hk, by rw [pk_us, ← h]; exact e⟩
    · exact ⟨i, hi, by rw [pk_un (by omega)]; exact e⟩
section
variable {sN sC sW pP pD pE tc lV bU pL wH sE : Int32} {kd ox oy oz wd fo su rd dp nx en hS wO nO nW eo so ne td tf tb : Nat → Int32} {vA cH mK cA sK : Nat → Int64}
variable {c : ga_C}
/-- taking the inputs of a leg -/
theorem gi_tk23 {n l : Nat} (hn : n < 360) (hl : l < n) : ∀ (d i : Nat) (io : Nat → Int32), i + d = 4 → iv_n io n → iv_n io l → ∃ r io', fr_4 n io io' ∧ ((r = 1 ∧ iv_n io' n ∧ (∀ m, m < 360 → in_s io n m → in_s io' n m) ∧ ∀ j, i ≤ j → j < 4 → ∀ m, m < 360 → io (4 * l + j) = nI m → in_s io' n m) ∨ r = 0) ∧
    ∀ post : Int32 → SX → Prop, post r (sN, sC, sW, pP, pD, pE, c.1, tc, lV, bU, pL, wH, sE, kd, ox, oy, oz, wd, fo, su, rd, dp, nx, en, hS, wO, nO, nW, c.2.1, c.2.2.1, c.2.2.2.1, c.2.2.2.2, eo, so, ne, io', td, tf, tb, vA, cH, mK, cA, sK) → wX_takeInputs_23 post (nI n) (nI l) (d + 1) (nI i) sN sC sW pP pD pE c.1 tc lV bU pL wH sE kd ox oy oz wd fo su rd dp nx en hS wO nO nW c.2.1 c.2.2.1 c.2.2.2.1 c.2.2.2.2 eo so ne io td tf tb vA cH mK cA sK := by
  intro d
  induction d with
  | zero =>
    intro i io hi hv hvl
    refine ⟨1, io, fr_4r n io, Or.inl ⟨rfl, hv, fun m _ h => h, fun j h1 h2 => by omega⟩, fun post k => ?_⟩
    unfold wX_takeInputs_23
    exact br_t (nI_le (a := 4) (by omega) (by omega)) k
  | succ d ih =>
    intro i io hi hv hvl
    have hin : vp_in ((4 * nI l) + nI i) 1440 := by rw [gi_ix]; exact vp_in_nI (by omega) (by omega)
    have hc : ((4 * nI l) + nI i).toNatClampNeg = 4 * l + i := by rw [gi_ix]; exact nI_clamp (by omega)
    have h4 : ¬ (4 : Int32) ≤ nI i := nI_ge (b := 4) (by omega) (by omega)
    rcases hvl i (by omega) with z | ⟨f, z1, z2⟩
    · obtain ⟨r, io', g1, g2, hp⟩ := ih (i + 1) io (by omega) hv hvl
      refine ⟨r, io', g1, ?_, fun post k => ?_⟩
      · rcases g2 with ⟨a1, a2, a3, a4⟩ | g2
        · refine Or.inl ⟨a1, a2, a3, fun j j1 j2 m hm e => ?_⟩
          by_cases q : j = i
          · rw [q, z] at e
            exact absurd e.symm (nr_ne (by omega))
          · exact a4 j (by omega) j2 m hm e
        · exact Or.inr g2
      · unfold wX_takeInputs_23
        refine br_f h4 ⟨hin, ?_⟩
        intro x ex
        rw [hc, z] at ex
        subst ex
        refine br_t (by decide) ?_
        intro y ey
        have e2 := ey.trans (nI_1 i)
        subst e2
        exact hp post k
    · obtain ⟨r1, io1, h1, hp1⟩ := gi_add (c := c) (n := n) (f := f) hn (by omega) hv
      rcases h1 with ⟨rfl, k, k1, rfl, k3⟩ | ⟨rfl, rfl, hno⟩
      · obtain ⟨f1, f2, f3, f4⟩ := ai_ok (f := f) (by omega) hn k1 hv k3
        obtain ⟨r, io', g1, g2, hp⟩ := ih (i + 1) _ (by omega) f2 (fun j hj => by rw [f1 _ (by omega)]; exact hvl j hj)
        refine ⟨r, io', fr_4t f1 g1, ?_, fun post k => ?_⟩
        · rcases g2 with ⟨a1, a2, a3, a4⟩ | g2
          · refine Or.inl ⟨a1, a2, fun m hm e => a3 m hm (f4 m hm e), fun j j1 j2 m hm e => ?_⟩
            by_cases q : j = i
            · rw [q, z1, nI_eq (by omega) (by omega)] at e
              rw [← e]
              exact a3 f (by omega) f3
            · exact a4 j (by omega) j2 m hm (by rw [f1 _ (by omega)]; exact e)
          · exact Or.inr g2
        · unfold wX_takeInputs_23
          refine br_f h4 ⟨hin, ?_⟩
          intro x ex
          rw [hc, z1] at ex
          subst ex
          refine br_f (nI_pos (by omega)) (hp1 _ (br_f (by decide) ?_))
          intro y ey
          have e2 := ey.trans (nI_1 i)
          subst e2
          exact hp post k
      · refine ⟨0, io1, fr_4r n io1, Or.inr rfl, fun post k => ?_⟩
        unfold wX_takeInputs_23
        refine br_f h4 ⟨hin, ?_⟩
        intro x ex
        rw [hc, z1] at ex
        subst ex
        exact br_f (nI_pos (by omega)) (hp1 _ (br_t rfl k))
theorem gi_tk13 {n l : Nat} {io : Nat → Int32} (hn : n < 360) (hl : l < n) (hv : iv_n io n) : ∃ r io', fr_4 n io io' ∧ ((r = 1 ∧ iv_n io' n ∧ (∀ m, m < 360 → in_s io n m → in_s io' n m) ∧ lg_in c io' n l ∧ ∃ k, k < 4 ∧ ∀ j, j < 4 → j ≠ k → io' (4 * n + j) = io (4 * n + j)) ∨ (r = 0 ∧ ∀ j, j < 4 → io (4 * n + j) ≠ -1)) ∧
    ∀ post : Int32 → SX → Prop, post r (sN, sC, sW, pP, pD, pE, c.1, tc, lV, bU, pL, wH, sE, kd, ox, oy, oz, wd, fo, su, rd, dp, nx, en, hS, wO, nO, nW, c.2.1, c.2.2.1, c.2.2.2.1, c.2.2.2.2, eo, so, ne, io', td, tf, tb, vA, cH, mK, cA, sK) → wX_takeInputs_13 post (nI n) (nI l) sN sC sW pP pD pE c.1 tc lV bU pL wH sE kd ox oy oz wd fo su rd dp nx en hS wO nO nW c.2.1 c.2.2.1 c.2.2.2.1 c.2.2.2.2 eo so ne io td tf tb vA cH mK cA sK := by
  obtain ⟨r1, io1, h1, hp1⟩ := gi_add (c := c) (n := n) (f := l) hn (by omega) hv
  rcases h1 with ⟨rfl, k, k1, rfl, k3⟩ | ⟨rfl, rfl, hno⟩
  · obtain ⟨f1, f2, f3, f4⟩ := ai_ok (f := l) hl hn k1 hv k3
    refine ⟨1, _, f1, Or.inl ⟨rfl, f2, f4, Or.inl f3, k, k1, fun j hj e => pk_un (by omega)⟩, fun post q => ?_⟩
    unfold wX_takeInputs_13
    exact hp1 _ ⟨narrow_b1, q⟩
  · refine ⟨0, io1, fr_4r n io1, Or.inr ⟨rfl, hno⟩, fun post q => ?_⟩
    unfold wX_takeInputs_13
    exact hp1 _ ⟨narrow_b0, q⟩
theorem gi_take {n l : Nat} {t : Int32} {io : Nat → Int32} (hn : n < 360) (hl : l < n) (hg : c.2.1 l = -1 ∨ ∃ a, c.2.1 l = nI a ∧ a < 2 ^ 31) (hv : iv_n io n) (hvl : iv_n io l) : ∃ r io', fr_4 n io io' ∧ ((r = 1 ∧ iv_n io' n ∧ (∀ m, m < 360 → in_s io n m → in_s io' n m) ∧ lg_in c io' n l) ∨ r = 0) ∧
    (t = 0 → (r = 1 ∧ ∃ k, k < 4 ∧ ∀ j, j < 4 → j ≠ k → io' (4 * n + j) = io (4 * n + j)) ∨ (r = 0 ∧ ∀ j, j < 4 → io (4 * n + j) ≠ -1)) ∧
    ∀ post : Int32 → SX → Prop, post r (sN, sC, sW, pP, pD, pE, c.1, tc, lV, bU, pL, wH, sE, kd, ox, oy, oz, wd, fo, su, rd, dp, nx, en, hS, wO, nO, nW, c.2.1, c.2.2.1, c.2.2.2.1, c.2.2.2.2, eo, so, ne, io', td, tf, tb, vA, cH, mK, cA, sK) → wpX_takeInputs post (sN, sC, sW, pP, pD, pE, c.1, tc, lV, bU, pL, wH, sE, kd, ox, oy, oz, wd, fo, su, rd, dp, nx, en, hS, wO, nO, nW, c.2.1, c.2.2.1, c.2.2.2.1, c.2.2.2.2, eo, so, ne, io, td, tf, tb, vA, cH, mK, cA, sK) (nI n) (nI l) t := by
  have hlc : (nI l).toNatClampNeg = l := nI_clamp (by omega)
  by_cases q : t = 0
  · obtain ⟨r, io', g1, g2, hp⟩ := gi_tk13 (c := c) hn hl hv
    refine ⟨r, io', g1, ?_, fun _ => ?_, fun post k => ?_⟩
    · rcases g2 with ⟨a1, a2, a3, a4, a5⟩ | g2
      · exact Or.inl ⟨a1, a2, a3, a4⟩
      · exact Or.inr g2.1
    · rcases g2 with ⟨a1, a2, a3, a4, a5⟩ | g2
      · exact Or.inl ⟨a1, a5⟩
      · exact Or.inr g2
    · unfold wpX_takeInputs
      exact br_t q (hp post k)
  · rcases hg with z | ⟨a, z1, z2⟩
    · obtain ⟨r, io', g1, g2, hp⟩ := gi_tk13 (c := c) hn hl hv
      refine ⟨r, io', g1, ?_, fun e => absurd e q, fun post k => ?_⟩
      · rcases g2 with ⟨a1, a2, a3, a4, a5⟩ | g2
        · exact Or.inl ⟨a1, a2, a3, a4⟩
        · exact Or.inr g2.1
      · unfold wpX_takeInputs
        exact br_f q ⟨vp_in_nI (by omega) (by omega), br_f (by rw [hlc, z]; decide) (hp post k)⟩
    · obtain ⟨r, io', g1, g2, hp⟩ := gi_tk23 (c := c) hn hl 4 0 io rfl hv hvl
      refine ⟨r, io', g1, ?_, fun e => absurd e q, fun post k => ?_⟩
      · rcases g2 with ⟨a1, a2, a3, a4⟩ | g2
        · refine Or.inl ⟨a1, a2, a3, Or.inr ⟨by rw [z1]; exact nr_ne z2, fun m hm e => ?_⟩⟩
          obtain ⟨j, j1, j2⟩ := (in_fr g1 (by omega)).mp e
          exact a4 j (by omega) j1 m hm j2
        · exact Or.inr g2
      · unfold wpX_takeInputs
        exact br_f q ⟨vp_in_nI (by omega) (by omega), br_t (by rw [hlc, z1]; exact nI_pos' z2) ⟨5, hp post k⟩⟩
theorem gi_rank {n : Nat} {io : Nat → Int32} (hn : n < 360) (hv : iv_n io n) : ∀ (d i : Nat) (x4 x5 : Int32), i + d = 4 → ∃ r, ∀ post : Int32 → SX → Prop, post r (sN, sC, sW, pP, pD, pE, c.1, tc, lV, bU, pL, wH, sE, kd, ox, oy, oz, wd, fo, su, rd, dp, nx, en, hS, wO, nO, nW, c.2.1, c.2.2.1, c.2.2.2.1, c.2.2.2.2, eo, so, ne, io, td, tf, tb, vA, cH, mK, cA, sK) → wX_tryInputs_101 post (nI n) sN sC sW pP pD pE c.1 tc lV bU pL wH sE kd ox oy oz wd fo su rd dp nx en hS wO nO nW c.2.1 c.2.2.1 c.2.2.2.1 c.2.2.2.2 eo so ne io td tf tb vA cH mK cA sK (d + 1) x4 x5 (nI i) := by
  intro d
  induction d with
  | zero =>
    intro i x4 x5 hi
    refine ⟨(8 * (x4 + 1)) + x5, fun post k => ?_⟩
    unfold wX_tryInputs_101
    exact br_t (nI_le (a := 4) (by omega) (by omega)) k
  | succ d ih =>
    intro i x4 x5 hi
    have hin : vp_in ((4 * nI n) + nI i) 1440 := by rw [gi_ix]; exact vp_in_nI (by omega) (by omega)
    have hc : ((4 * nI n) + nI i).toNatClampNeg = 4 * n + i := by rw [gi_ix]; exact nI_clamp (by omega)
    have h4 : ¬ (4 : Int32) ≤ nI i := nI_ge (b := 4) (by omega) (by omega)
    rcases hv i (by omega) with z | ⟨m, z1, z2⟩
    · obtain ⟨r, hp⟩ := ih (i + 1) x4 x5 (by omega)
      refine ⟨r, fun post k => ?_⟩
      unfold wX_tryInputs_101
      refine br_f h4 ⟨hin, ?_⟩
      intro x ex
      rw [hc, z] at ex
      subst ex
      refine br_f (by decide) ?_
      intro y ey
      have e2 := ey.trans (nI_1 i)
      subst e2
      exact hp post k
    · have hm : vp_in (nI m) 360 := vp_in_nI (by omega) (by omega)
      by_cases q : td (nI m).toNatClampNeg ≤ x4
      · obtain ⟨r, hp⟩ := ih (i + 1) x4 (x5 + 1) (by omega)
        refine ⟨r, fun post k => ?_⟩
        unfold wX_tryInputs_101
        refine br_f h4 ⟨hin, ?_⟩
        intro x ex
        rw [hc, z1] at ex
        subst ex
        refine br_t (nI_pos' (by omega)) ?_
        intro y5 e5
        subst e5
        refine ⟨hm, br_t q ?_⟩
        intro y ey
        have e2 := ey.trans (nI_1 i)
        subst e2
        exact hp post k
      · obtain ⟨r, hp⟩ := ih (i + 1) (td (nI m).toNatClampNeg) (x5 + 1) (by omega)
        refine ⟨r, fun post k => ?_⟩
        unfold wX_tryInputs_101
        refine br_f h4 ⟨hin, ?_⟩
        intro x ex
        rw [hc, z1] at ex
        subst ex
        refine br_t (nI_pos' (by omega)) ?_
        intro y5 e5
        subst e5
        refine ⟨hm, br_f q ⟨hm, ?_⟩⟩
        intro y4 e4
        subst e4
        intro y ey
        have e2 := ey.trans (nI_1 i)
        subst e2
        exact hp post k
/-- the loop that clears, then the rest -/
theorem gi_clr {post : Int32 → SX → Prop} {n : Nat} {t z0 : Int32} {io0 : Nat → Int32} (hn : n < 360) (h0 : (t &&& 1 = 0 ∧ z0 = 0) ∨ (¬ t &&& 1 = 0 ∧ z0 = 1))
    (K : wX_tryInputs_45 post (nI n) t z0 ((c.2.1 n) >>> ((1 : Int32) &&& 31)) (nI n) sN sC sW pP pD pE c.1 tc lV bU pL wH sE kd ox oy oz wd fo su rd dp nx en hS wO nO nW c.2.1 c.2.2.1 c.2.2.2.1 c.2.2.2.2 eo so ne (cl_4 io0 n) td tf tb vA cH mK cA sK) : ∀ (m i : Nat) (io : Nat → Int32), 4 < m + i → i ≤ 4 → fr_4 n io0 io → (∀ j, j < i → io (4 * n + j) = -1) → wX_tryInputs_2 post (nI n) t sN sC sW pP pD pE c.1 tc lV bU pL wH sE m (nI i) kd ox oy oz wd fo su rd dp nx en hS wO nO nW c.2.1 c.2.2.1 c.2.2.2.1 c.2.2.2.2 eo so ne io td tf tb vA cH mK cA sK := by
  have hnc : (nI n).toNatClampNeg = n := nI_clamp (by omega)
  intro m
  induction m with
  | zero => intro i io h1 h2; omega
  | succ m ih =>
    intro i io h1 h2 hf hI
    unfold wX_tryInputs_2
    refine pk_le 4 i (fun hle => ?_) (fun hlt => ?_)
    · have e : io = cl_4 io0 n := by
        funext j
        unfold cl_4
        by_cases q : 4 * n ≤ j ∧ j < 4 * n + 4
        · rw [if_pos q]
          have := hI (j - 4 * n) (by omega)
          rw [show 4 * n + (j - 4 * n) = j from by omega] at this
          exact this
        · rw [if_neg q]; exact hf j (by omega)
      subst e
      refine ⟨vp_in_nI hn (by omega), ?_⟩
      rw [hnc]
      rcases h0 with ⟨a, b⟩ | ⟨a, b⟩
      · subst b; exact br_t a K
      · subst b; exact br_f a K
    · have hin : vp_in ((4 * nI n) + nI i) 1440 := by rw [gi_ix]; exact vp_in_nI (by omega) (by omega)
      have hc : ((4 * nI n) + nI i).toNatClampNeg = 4 * n + i := by rw [gi_ix]; exact nI_clamp (by omega)
      refine ⟨hin, ?_⟩
      intro io' eio
      rw [hc, nr_sm] at eio
      intro y ey
      have e2 := ey.trans (nI_1 i)
      subst e2 eio
      refine ih (i + 1) _ (by omega) (by omega) (fun j hj => (pk_un (by omega)).trans (hf j hj)) (fun j hj => ?_)
      by_cases q : j = i
      · rw [q, pk_us]
      · rw [pk_un (by omega)]; exact hI j (by omega)
theorem gi_try {n a b : Nat} {t : Int32} {io : Nat → Int32} (hn : n < 360) (ha : c.2.1 n = nI a) (hb : c.2.2.1 n = nI b) (ha2 : a < 2 * n) (hb2 : b < 2 * n) (hleg : ∀ l, l < n → c.2.1 l = -1 ∨ ∃ a, c.2.1 l = nI a ∧ a < 2 ^ 31) (hiv : ∀ k, k < n → iv_n io k) :
    ∃ r io', fr_4 n io io' ∧ (in_ok c io' n ∨ r = 1000) ∧ (t = 0 → in_ok c io' n) ∧ ∀ io1, cl_4 io1 n = cl_4 io n → ∀ post : Int32 → SX → Prop, post r (sN, sC, sW, pP, pD, pE, c.1, tc, lV, bU, pL, wH, sE, kd, ox, oy, oz, wd, fo, su, rd, dp, nx, en, hS, wO, nO, nW, c.2.1, c.2.2.1, c.2.2.2.1, c.2.2.2.2, eo, so, ne, io', td, tf, tb, vA, cH, mK, cA, sK) → wpX_tryInputs post (sN, sC, sW, pP, pD, pE, c.1, tc, lV, bU, pL, wH, sE, kd, ox, oy, oz, wd, fo, su, rd, dp, nx, en, hS, wO, nO, nW, c.2.1, c.2.2.1, c.2.2.2.1, c.2.2.2.2, eo, so, ne, io1, td, tf, tb, vA, cH, mK, cA, sK) (nI n) t := by
  have hnc : (nI n).toNatClampNeg = n := nI_clamp (by omega)
  have sa : nI a >>> ((1 : Int32) &&& 31) = nI (a / 2) := pk_shrN (by omega) _ 1 (by decide)
  have sb : nI b >>> ((1 : Int32) &&& 31) = nI (b / 2) := pk_shrN (by omega) _ 1 (by decide)
  have ca : (c.2.1 n).toNatClampNeg / 2 = a / 2 := by rw [ha, nI_clamp (by omega)]
  have cb : (c.2.2.1 n).toNatClampNeg / 2 = b / 2 := by rw [hb, nI_clamp (by omega)]
  obtain ⟨t1, ht1⟩ : ∃ t1 : Int32, (t &&& 1 = 0 ∧ t1 = 0) ∨ (¬ t &&& 1 = 0 ∧ t1 = 1) := by
    by_cases q : t &&& 1 = 0
    · exact ⟨0, Or.inl ⟨q, rfl⟩⟩
    · exact ⟨1, Or.inr ⟨q, rfl⟩⟩
  obtain ⟨t2, ht2⟩ : ∃ t2 : Int32, (t &&& 2 = 0 ∧ t2 = 0) ∨ (¬ t &&& 2 = 0 ∧ t2 = 1) := by
    by_cases q : t &&& 2 = 0
    · exact ⟨0, Or.inl ⟨q, rfl⟩⟩
    · exact ⟨1, Or.inr ⟨q, rfl⟩⟩
  have t10 : t = 0 → t1 = 0 := fun e => by
    rcases ht1 with h | h
    · exact h.2
    · exact absurd (by rw [e]; decide) h.1
  have t20 : t = 0 → t2 = 0 := fun e => by
    rcases ht2 with h | h
    · exact h.2
    · exact absurd (by rw [e]; decide) h.1
  have f0 := cl_f4 n io
  have ivc : ∀ k, k < n → iv_n (cl_4 io n) k := fun k hk j hj => by rw [f0 _ (by omega)]; exact hiv k hk j hj
  obtain ⟨r1, io1, a1, a2, a3, p1⟩ := gi_take (c := c) (n := n) (l := a / 2) (t := t1) hn (by omega) (hleg _ (by omega)) (cl_iv n io) (ivc _ (by omega))
  have enter : ∀ io9, cl_4 io9 n = cl_4 io n → ∀ post : Int32 → SX → Prop, wX_tryInputs_45 post (nI n) t t1 ((c.2.1 n) >>> ((1 : Int32) &&& 31)) (nI n) sN sC sW pP pD pE c.1 tc lV bU pL wH sE kd ox oy oz wd fo su rd dp nx en hS wO nO nW c.2.1 c.2.2.1 c.2.2.2.1 c.2.2.2.2 eo so ne (cl_4 io n) td tf tb vA cH mK cA sK → wpX_tryInputs post (sN, sC, sW, pP, pD, pE, c.1, tc, lV, bU, pL, wH, sE, kd, ox, oy, oz, wd, fo, su, rd, dp, nx, en, hS, wO, nO, nW, c.2.1, c.2.2.1, c.2.2.2.1, c.2.2.2.2, eo, so, ne, io9, td, tf, tb, vA, cH, mK, cA, sK) (nI n) t := by
    intro io9 e9 post k
    unfold wpX_tryInputs
    exact ⟨5, gi_clr (io0 := io9) hn ht1 (by rw [e9]; exact k) 5 0 io9 (by omega) (by omega) (fr_4r n io9) (fun j hj => absurd hj (by omega))⟩
  rcases a2 with ⟨rfl, b2, b3, b4⟩ | rfl
  · have iv1 : ∀ k, k < n → iv_n io1 k := fun k hk j hj => by rw [a1 _ (by omega)]; exact ivc k hk j hj
    obtain ⟨r2, io2, d1, d2, d3, p2⟩ := gi_take (c := c) (n := n) (l := b / 2) (t := t2) hn (by omega) (hleg _ (by omega)) b2 (iv1 _ (by omega))
    have go72 : ∀ post : Int32 → SX → Prop, (if r2 = 0 then wX_tryInputs_82 post (nI n) sN sC sW pP pD pE c.1 tc lV bU pL wH sE kd ox oy oz wd fo su rd dp nx en hS wO nO nW c.2.1 c.2.2.1 c.2.2.2.1 c.2.2.2.2 eo so ne io2 td tf tb vA cH mK cA sK else wX_tryInputs_83 post (nI n) 1 sN sC sW pP pD pE c.1 tc lV bU pL wH sE kd ox oy oz wd fo su rd dp nx en hS wO nO nW c.2.1 c.2.2.1 c.2.2.2.1 c.2.2.2.2 eo so ne io2 td tf tb vA cH mK cA sK) → wX_tryInputs_45 post (nI n) t t1 ((c.2.1 n) >>> ((1 : Int32) &&& 31)) (nI n) sN sC sW pP pD pE c.1 tc lV bU pL wH sE kd ox oy oz wd fo su rd dp nx en hS wO nO nW c.2.1 c.2.2.1 c.2.2.2.1 c.2.2.2.2 eo so ne (cl_4 io n) td tf tb vA cH mK cA sK := by
      intro post k
      unfold wX_tryInputs_45
      rw [ha, sa]
      refine p1 _ (br_f (by decide) ⟨vp_in_nI hn (by omega), ?_⟩)
      rw [hnc, hb, sb]
      have k72 : wX_tryInputs_72 post (nI n) t2 (nI (b / 2)) (nI n) sN sC sW pP pD pE c.1 tc lV bU pL wH sE kd ox oy oz wd fo su rd dp nx en hS wO nO nW c.2.1 c.2.2.1 c.2.2.2.1 c.2.2.2.2 eo so ne io1 td tf tb vA cH mK cA sK := by
        unfold wX_tryInputs_72
        refine p2 _ ?_
        by_cases q : r2 = 0
        · rw [if_pos q] at k
          exact br_t q k
        · rw [if_neg q] at k
          exact br_f q k
      rcases ht2 with ⟨h1, h2⟩ | ⟨h1, h2⟩
      · subst h2; exact br_t h1 k72
      · subst h2; exact br_f h1 k72
    rcases d2 with ⟨rfl, e2, e3, e4⟩ | rfl
    · obtain ⟨r, hp⟩ := gi_rank (c := c) hn e2 4 0 0 0 rfl
      have lgA : lg_in c io2 n (a / 2) := by
        rcases b4 with y | ⟨y1, y2⟩
        · exact Or.inl (e3 _ (by omega) y)
        · exact Or.inr ⟨y1, fun m hm z => e3 m hm (y2 m hm ((in_fr d1 (by omega)).mp z))⟩
      have good : in_ok c io2 n := ⟨e2, fun _ => by rw [ca, cb]; exact ⟨lgA, e4⟩⟩
      refine ⟨r, io2, fr_4t f0 (fr_4t a1 d1), Or.inl good, fun _ => good, fun io9 e9 post k => enter io9 e9 post (go72 post ?_)⟩
      rw [if_neg (by decide)]
      unfold wX_tryInputs_83
      exact br_f (by decide) ⟨5, hp post k⟩
    · refine ⟨1000, io2, fr_4t f0 (fr_4t a1 d1), Or.inr rfl, fun e => ?_, fun io9 e9 post k => enter io9 e9 post (go72 post ?_)⟩
      · exfalso
        rcases a3 (t10 e) with ⟨-, k, k1, k2⟩ | ⟨y, -⟩
        · rcases d3 (t20 e) with ⟨y, -⟩ | ⟨-, y⟩
          · exact absurd y (by decide)
          · by_cases q : k = 0
            · exact y 1 (by omega) (by rw [k2 1 (by omega) (by omega)]; exact cl_m1 n io (by omega))
            · exact y 0 (by omega) (by rw [k2 0 (by omega) (by omega)]; exact cl_m1 n io (by omega))
        · exact absurd y (by decide)
      · rw [if_pos rfl]
        unfold wX_tryInputs_82 wX_tryInputs_83
        exact br_t rfl k
  · refine ⟨1000, io1, fr_4t f0 a1, Or.inr rfl, fun e => ?_, fun io9 e9 post k => enter io9 e9 post ?_⟩
    · exfalso
      rcases a3 (t10 e) with ⟨y, -⟩ | ⟨-, y⟩
      · exact absurd y (by decide)
      · exact y 0 (by omega) (cl_m1 n io (by omega))
    · unfold wX_tryInputs_45
      rw [ha, sa]
      refine p1 _ (br_t rfl ?_)
      unfold wX_tryInputs_82 wX_tryInputs_83
      exact br_t rfl k
end
end
section
/-! chooseInputs, the loops -/
theorem in_okf {c : ga_C} {n k : Nat} {io io' : Nat → Int32} (h : fr_4 n io io') (hk : k < n) (hl : ga_leg c k) (hk31 : k < 360) (g : in_ok c io k) : in_ok c io' k := by
  refine ⟨fun i hi => by rw [h _ (Or.inl (by omega))]; exact g.1 i hi, fun hg => ?_⟩
  rcases hl with z | ⟨a, b, z1, z2, z3, z4⟩
  · exact absurd z hg
  · have q := g.2 hg
    have tr : ∀ l, l < k → lg_in c io k l → lg_in c io' k l := by
      intro l hl y
      rcases y with y | ⟨y1, y2⟩
      · exact Or.inl ((in_fr h (by omega)).mpr y)
      · exact Or.inr ⟨y1, fun m hm e => (in_fr h (by omega)).mpr (y2 m hm ((in_fr h (by omega)).mp e))⟩
    have ca : (c.2.1 k).toNatClampNeg / 2 < k := by rw [z1, nI_clamp (by omega)]; omega
    have cb : (c.2.2.1 k).toNatClampNeg / 2 < k := by rw [z2, nI_clamp (by omega)]; omega
    exact ⟨tr _ ca q.1, tr _ cb q.2⟩
section
variable {sN sC sW pP pD pE tc lV bU pL wH sE : Int32} {kd ox oy oz wd fo su rd dp nx en hS wO nO nW eo so ne tf tb : Nat → Int32} {vA cH mK cA sK : Nat → Int64}
theorem gi_62 {post : SX → Prop} {J : Int32 → Int32 → Int32 → Int32 → Int32 → Int32 → Int32 → Int32 → Int32 → Int32 → Int32 → Int32 → Int32 → Int32 → (Nat → Int32) → (Nat → Int32) → (Nat → Int32) → (Nat → Int32) → (Nat → Int32) → (Nat → Int32) → (Nat → Int32) → (Nat → Int32) → (Nat → Int32) → (Nat → Int32) → (Nat → Int32) → (Nat → Int32) → (Nat → Int32) → (Nat → Int32) → (Nat → Int32) → (Nat → Int32) → (Nat → Int32) → (Nat → Int32) → (Nat → Int32) → (Nat → Int32) → (Nat → Int32) → (Nat → Int32) → (Nat → Int32) → (Nat → Int32) → (Nat → Int32) → (Nat → Int32) → (Nat → Int64) → (Nat → Int64) → (Nat → Int64) → (Nat → Int64) → (Nat → Int64) → Prop} {c : ga_C} {n : Nat} {io td : Nat → Int32} {R : Nat → Int32} {I : Nat → Nat → Int32} (hn : n < 360)
    (hI : ∀ w, w < 4 → fr_4 n io (I w) ∧ (in_ok c (I w) n ∨ R w = 1000) ∧ ∀ io1, cl_4 io1 n = cl_4 io n → ∀ post : Int32 → SX → Prop, post (R w) (sN, sC, sW, pP, pD, pE, c.1, tc, lV, bU, pL, wH, sE, kd, ox, oy, oz, wd, fo, su, rd, dp, nx, en, hS, wO, nO, nW, c.2.1, c.2.2.1, c.2.2.2.1, c.2.2.2.2, eo, so, ne, I w, td, tf, tb, vA, cH, mK, cA, sK) → wpX_tryInputs post (sN, sC, sW, pP, pD, pE, c.1, tc, lV, bU, pL, wH, sE, kd, ox, oy, oz, wd, fo, su, rd, dp, nx, en, hS, wO, nO, nW, c.2.1, c.2.2.1, c.2.2.2.1, c.2.2.2.2, eo, so, ne, io1, td, tf, tb, vA, cH, mK, cA, sK) (nI n) (nI w))
    (K : ∀ io' td', fr_4 n io io' → in_ok c io' n → J (nI (n + 1)) sN sC sW pP pD pE c.1 tc lV bU pL wH sE kd ox oy oz wd fo su rd dp nx en hS wO nO nW c.2.1 c.2.2.1 c.2.2.2.1 c.2.2.2.2 eo so ne io' td' tf tb vA cH mK cA sK) :
    ∀ (m w : Nat) (io1 : Nat → Int32) (best : Int32) (bw : Nat), 4 < m + w → w ≤ 4 → cl_4 io1 n = cl_4 io n → best ≤ 1000 → bw < 4 → in_ok c (I bw) n → wX_chooseInputs_62 post J (nI n) m best (nI bw) (nI w) sN sC sW pP pD pE c.1 tc lV bU pL wH sE kd ox oy oz wd fo su rd dp nx en hS wO nO nW c.2.1 c.2.2.1 c.2.2.2.1 c.2.2.2.2 eo so ne io1 td tf tb vA cH mK cA sK := by
  intro m
  induction m with
  | zero => intro w io1 best bw h1 h2; omega
  | succ m ih =>
    intro w io1 best bw h1 h2 h3 h4 h5 h6
    unfold wX_chooseInputs_62
    refine pk_le 4 w (fun hle => ?_) (fun hlt => ?_)
    · refine (hI bw h5).2.2 io1 h3 _ ⟨by decide, vp_in_nI hn (by omega), ?_⟩
      intro td' etd
      intro y ey
      have e2 := ey.trans (nI_1 n)
      subst e2
      exact K (I bw) td' (hI bw h5).1 h6
    · have hw := hI w hlt
      refine hw.2.2 io1 h3 _ (br_c (fun q => ?_) (fun q => ?_))
      · intro y ey
        have e2 := ey.trans (nI_1 w)
        subst e2
        refine ih (w + 1) (I w) (R w) w (by omega) (by omega) (cl_fr hw.1) (Int32.le_trans (Int32.le_of_lt q) h4) hlt ?_
        rcases hw.2.1 with z | z
        · exact z
        · rw [z] at q
          exact absurd (Int32.lt_of_lt_of_le q h4) (fun y => Int32.lt_irrefl y)
      · intro y ey
        have e2 := ey.trans (nI_1 w)
        subst e2
        exact ih (w + 1) (I w) best bw (by omega) (by omega) (cl_fr hw.1) h4 h5 h6
theorem gi_12 {post : SX → Prop} {J : Int32 → Int32 → Int32 → Int32 → Int32 → Int32 → Int32 → Int32 → Int32 → Int32 → Int32 → Int32 → Int32 → Int32 → (Nat → Int32) → (Nat → Int32) → (Nat → Int32) → (Nat → Int32) → (Nat → Int32) → (Nat → Int32) → (Nat → Int32) → (Nat → Int32) → (Nat → Int32) → (Nat → Int32) → (Nat → Int32) → (Nat → Int32) → (Nat → Int32) → (Nat → Int32) → (Nat → Int32) → (Nat → Int32) → (Nat → Int32) → (Nat → Int32) → (Nat → Int32) → (Nat → Int32) → (Nat → Int32) → (Nat → Int32) → (Nat → Int32) → (Nat → Int32) → (Nat → Int32) → (Nat → Int32) → (Nat → Int64) → (Nat → Int64) → (Nat → Int64) → (Nat → Int64) → (Nat → Int64) → Prop} {c : ga_C} {n : Nat} {io0 td : Nat → Int32} (hn : n < 360) (hleg : ∀ k, k ≤ n → ga_leg c k) (hiv : ∀ k, k < n → iv_n io0 k)
    (K : ∀ io' td', fr_4 n io0 io' → in_ok c io' n → J (nI (n + 1)) sN sC sW pP pD pE c.1 tc lV bU pL wH sE kd ox oy oz wd fo su rd dp nx en hS wO nO nW c.2.1 c.2.2.1 c.2.2.2.1 c.2.2.2.2 eo so ne io' td' tf tb vA cH mK cA sK) :
    ∀ (m i : Nat) (io : Nat → Int32), 4 < m + i → i ≤ 4 → fr_4 n io0 io → (∀ j, j < i → io (4 * n + j) = -1) → wX_chooseInputs_12 post J (nI n) sN sC sW pP pD pE c.1 tc lV bU pL wH sE m (nI i) kd ox oy oz wd fo su rd dp nx en hS wO nO nW c.2.1 c.2.2.1 c.2.2.2.1 c.2.2.2.2 eo so ne io td tf tb vA cH mK cA sK := by
  have hnc : (nI n).toNatClampNeg = n := nI_clamp (by omega)
  have hnin : vp_in (nI n) 360 := vp_in_nI hn (by omega)
  intro m
  induction m with
  | zero => intro i io h1 h2; omega
  | succ m ih =>
    intro i io h1 h2 hf hI
    unfold wX_chooseInputs_12
    refine pk_le 4 i (fun hle => ?_) (fun hlt => ?_)
    · refine ⟨hnin, ?_⟩
      intro td' etd
      refine ⟨hnin, ?_⟩
      rw [hnc]
      rcases hleg n (Nat.le_refl _) with z | ⟨a, b, z1, z2, z3, z4⟩
      · refine br_f (by rw [z]; decide) ?_
        intro y ey
        have e2 := ey.trans (nI_1 n)
        subst e2
        exact K io td' hf ⟨fun j hj => Or.inl (hI j (by omega)), fun hg => absurd z hg⟩
      · refine br_t (by rw [z1]; exact nI_pos' (by omega)) ?_
        have lg : ∀ l, l < n → c.2.1 l = -1 ∨ ∃ a, c.2.1 l = nI a ∧ a < 2 ^ 31 := fun l hl => by
          rcases hleg l (by omega) with y | ⟨a, b, y1, y2, y3, y4⟩
          · exact Or.inl y
          · exact Or.inr ⟨a, y1, by omega⟩
        have iv' : ∀ k, k < n → iv_n io k := fun k hk j hj => by rw [hf _ (by omega)]; exact hiv k hk j hj
        have out : ∀ w : Nat, ∃ p : Int32 × (Nat → Int32), fr_4 n io p.2 ∧ (in_ok c p.2 n ∨ p.1 = 1000) ∧ (nI w = 0 → in_ok c p.2 n) ∧ ∀ io1, cl_4 io1 n = cl_4 io n → ∀ post : Int32 → SX → Prop, post p.1 (sN, sC, sW, pP, pD, pE, c.1, tc, lV, bU, pL, wH, sE, kd, ox, oy, oz, wd, fo, su, rd, dp, nx, en, hS, wO, nO, nW, c.2.1, c.2.2.1, c.2.2.2.1, c.2.2.2.2, eo, so, ne, p.2, td', tf, tb, vA, cH, mK, cA, sK) → wpX_tryInputs post (sN, sC, sW, pP, pD, pE, c.1, tc, lV, bU, pL, wH, sE, kd, ox, oy, oz, wd, fo, su, rd, dp, nx, en, hS, wO, nO, nW, c.2.1, c.2.2.1, c.2.2.2.1, c.2.2.2.2, eo, so, ne, io1, td', tf, tb, vA, cH, mK, cA, sK) (nI n) (nI w) := by
          intro w
          obtain ⟨r, io', g1, g2, g3, g4⟩ := gi_try (c := c) (t := nI w) hn z1 z2 z3 z4 lg iv'
          exact ⟨(r, io'), g1, g2, g3, g4⟩
        obtain ⟨F, hF⟩ := Classical.axiomOfChoice out
        refine ⟨5, gi_62 (io := io) (R := fun w => (F w).1) (I := fun w => (F w).2) hn (fun w _ => ⟨(hF w).1, (hF w).2.1, (hF w).2.2.2⟩) (fun io' td2 f1 f2 => K io' td2 (fr_4t hf f1) f2) 5 0 io 1000 0 (by omega) (by omega) rfl (Int32.le_refl _) (by omega) ((hF 0).2.2.1 rfl)⟩
    · have hin : vp_in ((4 * nI n) + nI i) 1440 := by rw [gi_ix]; exact vp_in_nI (by omega) (by omega)
      have hc : ((4 * nI n) + nI i).toNatClampNeg = 4 * n + i := by rw [gi_ix]; exact nI_clamp (by omega)
      refine ⟨hin, ?_⟩
      intro io' eio
      rw [hc, nr_sm] at eio
      intro y ey
      have e2 := ey.trans (nI_1 i)
      subst e2 eio
      refine ih (i + 1) _ (by omega) (by omega) (fun j hj => (pk_un (by omega)).trans (hf j hj)) (fun j hj => ?_)
      by_cases q : j = i
      · rw [q, pk_us]
      · rw [pk_un (by omega)]; exact hI j (by omega)
theorem gi_2 {post : SX → Prop} {c : ga_C} {S B : Nat} (h : ga_ok c S B) (hr : S + B ≤ 355) (K : ∀ io' td', (∀ k, k < ga_M c → in_ok c io' k) → post (sN, sC, sW, pP, pD, pE, c.1, tc, lV, bU, pL, wH, sE, kd, ox, oy, oz, wd, fo, su, rd, dp, nx, en, hS, wO, nO, nW, c.2.1, c.2.2.1, c.2.2.2.1, c.2.2.2.2, eo, so, ne, io', td', tf, tb, vA, cH, mK, cA, sK)) :
    ∀ (m n : Nat) (io td : Nat → Int32), ga_M c < m + n → n ≤ ga_M c → (∀ k, k < n → in_ok c io k) → wX_chooseInputs_2 post m (nI n) sN sC sW pP pD pE c.1 tc lV bU pL wH sE kd ox oy oz wd fo su rd dp nx en hS wO nO nW c.2.1 c.2.2.1 c.2.2.2.1 c.2.2.2.2 eo so ne io td tf tb vA cH mK cA sK := by
  have hM := h.2.2.1
  intro m
  induction m with
  | zero => intro n io td h1 h2; omega
  | succ m ih =>
    intro n io td h1 h2 hI
    unfold wX_chooseInputs_2
    refine pk_le (ga_M c) n (fun hle => ?_) (fun hlt => ?_) h.1
    · exact K io td (fun k hk => hI k (by omega))
    · refine ⟨5, gi_12 (io0 := io) (by omega) (fun k hk => h.2.2.2.2.2.1 k (by omega)) (fun k hk => (hI k hk).1) ?_ 5 0 io (by omega) (by omega) (fr_4r n io) (fun j hj => absurd hj (by omega))⟩
      intro io' td' f1 f2
      refine ih (n + 1) io' td' (by omega) (by omega) (fun k hk => ?_)
      by_cases q : k = n
      · rw [q]; exact f2
      · exact in_okf f1 (by omega) (h.2.2.2.2.2.1 k (by omega)) (by omega) (hI k (by omega))
variable {c : ga_C} {io td : Nat → Int32}
theorem gi_choose {post : SX → Prop} {S B : Nat} (h : ga_ok c S B) (hr : S + B ≤ 355) (K : ∀ io' td', (∀ k, k < ga_M c → in_ok c io' k) → post (sN, sC, sW, pP, pD, pE, c.1, tc, lV, bU, pL, wH, sE, kd, ox, oy, oz, wd, fo, su, rd, dp, nx, en, hS, wO, nO, nW, c.2.1, c.2.2.1, c.2.2.2.1, c.2.2.2.2, eo, so, ne, io', td', tf, tb, vA, cH, mK, cA, sK)) : wpX_chooseInputs post (sN, sC, sW, pP, pD, pE, c.1, tc, lV, bU, pL, wH, sE, kd, ox, oy, oz, wd, fo, su, rd, dp, nx, en, hS, wO, nO, nW, c.2.1, c.2.2.1, c.2.2.2.1, c.2.2.2.2, eo, so, ne, io, td, tf, tb, vA, cH, mK, cA, sK) := by
  unfold wpX_chooseInputs
  exact ⟨ga_M c + 1, gi_2 h hr K (ga_M c + 1) 0 io td (by omega) (by omega) (fun k hk => absurd hk (by omega))⟩
end
end
section
/-! marks, cases, fillTable -/
def ca_ok (cA : Nat → Int64) : Prop := ∀ i j, i < 6 → j < 64 → (cA i).toBitVec.getLsbD j = j.testBit i
def ix_w (io : Nat → Int32) (n : Nat) (w : Nat → Bool) : Nat := nb_n (fun i => !decide (io (4 * n + i) = -1) && w (io (4 * n + i)).toNatClampNeg) 4
def tb_ok (c : ga_C) (io tf : Nat → Int32) (n : Nat) : Prop := ∀ w, ga_con c w → bt (tf n) (ix_w io n w) = w n
theorem ix_lt (io : Nat → Int32) (n : Nat) (w : Nat → Bool) : ix_w io n w < 16 := nb_lt _ 4
theorem ix_tb {io : Nat → Int32} {n i m : Nat} {w : Nat → Bool} (hi : i < 4) (h : io (4 * n + i) = nI m) (hm : m < 2 ^ 31) : (ix_w io n w).testBit i = w m := by
  unfold ix_w
  rw [nb_tb, h, nI_clamp hm]
  have : nI m ≠ -1 := nr_ne hm
  simp [hi, this]
theorem and_16 {x : Int64} {j : Nat} (hj : j < 16) : (x &&& 65535).toBitVec.getLsbD j = x.toBitVec.getLsbD j := by
  have e : (65535 : Int64).toBitVec.getLsbD j = true := by
    rw [show (65535 : Int64).toBitVec = BitVec.ofNat 64 (2 ^ 16 - 1) from by decide, BitVec.getLsbD_ofNat, Nat.testBit_two_pow_sub_one]
    have : j < 64 := by omega
    simp [hj, this]
  rw [Int64.toBitVec_and, BitVec.getLsbD_and, e, Bool.and_true]
theorem sh_16 {x : Int64} {j : Nat} (hj : j < 16) : bt (vp_nar .short x.toInt32.toInt16.toInt32) j = x.toBitVec.getLsbD j := by
  rw [pk_vs]
  unfold bt
  have h32 : j < 32 := by omega
  have h64 : j < 64 := by omega
  rw [Int16.toBitVec_toInt32, Int32.toBitVec_toInt16, Int64.toBitVec_toInt32, BitVec.getLsbD_signExtend, BitVec.getLsbD_signExtend, BitVec.getLsbD_signExtend]
  simp [hj, h32, h64]
section
variable {sN sC sW pP pD pE tc lV bU pL wH sE : Int32} {kd ox oy oz wd fo su rd dp nx en hS wO nO nW eo so ne io td tf tb : Nat → Int32} {vA cH cA sK : Nat → Int64}
variable {c : ga_C} {mK : Nat → Int64}
theorem gf_mark {post : SX → Prop} {n : Nat} (hn : n < 384) (K : ∀ mK', (∀ j, st_b mK' j = (decide (j = n) || st_b mK j)) → post (sN, sC, sW, pP, pD, pE, c.1, tc, lV, bU, pL, wH, sE, kd, ox, oy, oz, wd, fo, su, rd, dp, nx, en, hS, wO, nO, nW, c.2.1, c.2.2.1, c.2.2.2.1, c.2.2.2.2, eo, so, ne, io, td, tf, tb, vA, cH, mK', cA, sK)) : wpX_mark post (sN, sC, sW, pP, pD, pE, c.1, tc, lV, bU, pL, wH, sE, kd, ox, oy, oz, wd, fo, su, rd, dp, nx, en, hS, wO, nO, nW, c.2.1, c.2.2.1, c.2.2.2.1, c.2.2.2.2, eo, so, ne, io, td, tf, tb, vA, cH, mK, cA, sK) (nI n) := by
  have e6 : vp_in (nI n >>> ((6 : Int32) &&& 31)) 6 := by rw [st_sh (by omega)]; exact vp_in_nI (by omega) (by omega)
  unfold wpX_mark
  refine ⟨e6, e6, ?_⟩
  intro m' em
  rw [st_sh (by omega), st_an (by omega), nI_clamp (by omega)] at em
  subst em
  exact K _ (fun j => st_set j)
theorem gf_isM {post : Int32 → Prop} {b : Nat} (hb : b < 384) (k0 : st_b mK b = false → post 0) (k1 : st_b mK b = true → post 1) : wpX_isMarked post (sN, sC, sW, pP, pD, pE, c.1, tc, lV, bU, pL, wH, sE, kd, ox, oy, oz, wd, fo, su, rd, dp, nx, en, hS, wO, nO, nW, c.2.1, c.2.2.1, c.2.2.2.1, c.2.2.2.2, eo, so, ne, io, td, tf, tb, vA, cH, mK, cA, sK) (nI b) := by
  unfold wpX_isMarked
  refine ⟨by rw [st_sh (by omega)]; exact vp_in_nI (by omega) (by omega), ?_⟩
  cases z : st_b mK b
  · exact br_t ((st_tst (by omega)).mpr z) (k0 z)
  · exact br_f (fun y => by rw [(st_tst (by omega)).mp y] at z; exact Bool.noConfusion z) (k1 z)
theorem gf_case {post : Int64 → Prop} {e : Int32} (he : ga_en c e) (K : ∀ x, (∀ j, j < 64 → x.toBitVec.getLsbD j = nb_lit (fun n => (vA n).toBitVec.getLsbD j) e) → post x) : wpX_caseBits post (sN, sC, sW, pP, pD, pE, c.1, tc, lV, bU, pL, wH, sE, kd, ox, oy, oz, wd, fo, su, rd, dp, nx, en, hS, wO, nO, nW, c.2.1, c.2.2.1, c.2.2.2.1, c.2.2.2.2, eo, so, ne, io, td, tf, tb, vA, cH, mK, cA, sK) e := by
  obtain ⟨m, rfl, h1, h2⟩ := he
  have e1 : nI m >>> ((1 : Int32) &&& 31) = nI (m / 2) := pk_shrN (by omega) _ 1 (by decide)
  have e2 : nI m &&& 1 = nI (m % 2) := pk_andN (by omega) (m := 1) 1 (by decide)
  unfold wpX_caseBits
  rw [e1, e2, nI_clamp (by omega)]
  have hin : vp_in (nI (m / 2)) 360 := vp_in_nI (by omega) (by omega)
  rcases Nat.mod_two_eq_zero_or_one m with z | z
  · refine br_t (by rw [z]; rfl) ⟨hin, K _ (fun j hj => ?_)⟩
    rw [nb_litN _ (by omega), z]; simp
  · refine br_f (by rw [z]; decide) ⟨hin, K _ (fun j hj => ?_)⟩
    rw [nb_litN _ (by omega), z]
    show ((vA (m / 2)).toBitVec ^^^ (-1 : Int64).toBitVec).getLsbD j = _
    rw [show (-1 : Int64).toBitVec = BitVec.allOnes 64 from by decide, BitVec.getLsbD_xor, BitVec.getLsbD_allOnes]
    simp [hj]
end
section
variable {sN sC sW pP pD pE nc tc lV bU pL wH sE : Int32} {kd ox oy oz wd fo su rd dp nx en hS wO nO nW la lb nl fl eo so ne io td tf tb : Nat → Int32} {vA cH cA sK : Nat → Int64}
theorem gf_clr2 {post : SX → Prop} (K : ∀ mK', (∀ b, b < 384 → st_b mK' b = false) → post (sN, sC, sW, pP, pD, pE, nc, tc, lV, bU, pL, wH, sE, kd, ox, oy, oz, wd, fo, su, rd, dp, nx, en, hS, wO, nO, nW, la, lb, nl, fl, eo, so, ne, io, td, tf, tb, vA, cH, mK', cA, sK)) :
    ∀ (n i : Nat) (mK : Nat → Int64), 6 < n + i → i ≤ 6 → (∀ j, j < i → mK j = 0) → wX_clearMarks_2 post sN sC sW pP pD pE nc tc lV bU pL wH sE n (nI i) kd ox oy oz wd fo su rd dp nx en hS wO nO nW la lb nl fl eo so ne io td tf tb vA cH mK cA sK := by
  intro n
  induction n with
  | zero => intro i mK h1 h2; omega
  | succ n ih =>
    intro i mK h1 h2 hI
    unfold wX_clearMarks_2
    refine pk_le 6 i (fun hle => ?_) (fun hlt => ?_)
    · exact K mK (fun b hb => st_0 (hI _ (by omega)))
    · refine ⟨vp_in_nI (by omega) (by omega), ?_⟩
      intro s' es
      rw [nI_clamp (by omega)] at es
      intro y ey
      have e2 := ey.trans (nI_1 i)
      subst e2 es
      refine ih (i + 1) _ (by omega) (by omega) (fun j hj => ?_)
      by_cases q : j = i
      · rw [q, pk_uLs]
      · rw [pk_uLn q]; exact hI j (by omega)
variable {mK : Nat → Int64}
theorem gf_clr {post : SX → Prop} (K : ∀ mK', (∀ b, b < 384 → st_b mK' b = false) → post (sN, sC, sW, pP, pD, pE, nc, tc, lV, bU, pL, wH, sE, kd, ox, oy, oz, wd, fo, su, rd, dp, nx, en, hS, wO, nO, nW, la, lb, nl, fl, eo, so, ne, io, td, tf, tb, vA, cH, mK', cA, sK)) : wpX_clearMarks post (sN, sC, sW, pP, pD, pE, nc, tc, lV, bU, pL, wH, sE, kd, ox, oy, oz, wd, fo, su, rd, dp, nx, en, hS, wO, nO, nW, la, lb, nl, fl, eo, so, ne, io, td, tf, tb, vA, cH, mK, cA, sK) := by
  unfold wpX_clearMarks
  exact ⟨7, gf_clr2 K 7 0 mK (by omega) (by omega) (fun j hj => absurd hj (by omega))⟩
end
/-- the marked nodes are worked out -/
def fm_v (c : ga_C) (io : Nat → Int32) (n : Nat) (mK vA : Nat → Int64) : Prop := ∀ w, ga_con c w → ∀ m, m < ga_M c → st_b mK m = true → (vA m).toBitVec.getLsbD (ix_w io n w) = w m
theorem in_ne {c : ga_C} {io : Nat → Int32} (h : ∀ k, k < ga_M c → in_ok c io k) (hl : ∀ k, k < ga_M c → ga_leg c k) (hM : ga_M c ≤ 360) : ∀ k, k < ga_M c → c.2.1 k ≠ -1 → ∃ p, p < k ∧ in_s io k p := by
  have key : ∀ b k, k < b → k < ga_M c → c.2.1 k ≠ -1 → ∃ p, p < k ∧ in_s io k p := by
    intro b
    induction b with
    | zero => intro k h1; omega
    | succ b ih =>
      intro k h1 h2 hg
      rcases hl k h2 with z | ⟨a, d, z1, z2, z3, z4⟩
      · exact absurd z hg
      · have q := ((h k h2).2 hg).1
        rw [z1, nI_clamp (by omega)] at q
        rcases q with q | ⟨q1, q2⟩
        · exact ⟨_, by omega, q⟩
        · obtain ⟨p, p1, p2⟩ := ih (a / 2) (by omega) (by omega) q1
          exact ⟨p, by omega, q2 p (by omega) p2⟩
  exact fun k hk => key (k + 1) k (by omega) hk
section
variable {sN sC sW pP pD pE tc lV bU pL wH sE : Int32} {kd ox oy oz wd fo su rd dp nx en hS wO nO nW eo so ne io td tb : Nat → Int32} {cH cA sK : Nat → Int64}
/-- the gates between the inputs and the node -/
theorem gf_85 {post : SX → Prop} {c : ga_C} {S B n f : Nat} (h : ga_ok c S B) (hr : S + B ≤ 355) (hn : n < ga_M c) (hg : c.2.1 n ≠ -1) (hio : ∀ k, k < ga_M c → in_ok c io k) (hf : ∀ p, p < 360 → in_s io n p → f ≤ p)
    {tf : Nat → Int32} (K : ∀ mK' vA' tf', (∀ k, k ≠ n → tf' k = tf k) → tb_ok c io tf' n → post (sN, sC, sW, pP, pD, pE, c.1, tc, lV, bU, pL, wH, sE, kd, ox, oy, oz, wd, fo, su, rd, dp, nx, en, hS, wO, nO, nW, c.2.1, c.2.2.1, c.2.2.2.1, c.2.2.2.2, eo, so, ne, io, td, tf', tb, vA', cH, mK', cA, sK)) :
    ∀ (d m : Nat) (mK vA : Nat → Int64), n + 1 < d + m → f ≤ m → m ≤ n + 1 → fm_v c io n mK vA → (∀ p, p < 360 → in_s io n p → st_b mK p = true) → (∀ k, f ≤ k → k < m → c.2.1 k ≠ -1 → (∀ p, p < 360 → in_s io k p → in_s io n p) → st_b mK k = true) → wX_fillTable_85 post (nI n) d (nI m) sN sC sW pP pD pE c.1 tc lV bU pL wH sE kd ox oy oz wd fo su rd dp nx en hS wO nO nW c.2.1 c.2.2.1 c.2.2.2.1 c.2.2.2.2 eo so ne io td tf tb vA cH mK cA sK := by
  have hM := h.2.2.1
  have hl := h.2.2.2.2.2.1
  have hne := in_ne hio hl (by omega)
  have hnc : (nI n).toNatClampNeg = n := nI_clamp (by omega)
  have hnin : vp_in (nI n) 360 := vp_in_nI (by omega) (by omega)
  intro d
  induction d with
  | zero => intro m mK vA h1 h2 h3; omega
  | succ d ih =>
    intro m mK vA h1 h2 h3 hI hin hB
    unfold wX_fillTable_85
    refine pk_lt n m (fun hlt => ?_) (fun hle => ?_)
    · refine ⟨hnin, hnin, ?_⟩
      intro tf' et
      rw [hnc] at et
      have mn := hB n (by
        obtain ⟨p, p1, p2⟩ := hne n hn hg
        have := hf p (by omega) p2
        omega) (by omega) hg (fun p _ e => e)
      refine K mK vA tf' (fun k hk => by rw [et, pk_un hk]) (fun w hw => ?_)
      rw [et, pk_us, sh_16 (ix_lt io n w)]
      exact hI w hw n hn mn
    · have hmin : vp_in (nI m) 360 := vp_in_nI (by omega) (by omega)
      have hmc : (nI m).toNatClampNeg = m := nI_clamp (by omega)
      have next : (c.2.1 m ≠ -1 → (∀ p, p < 360 → in_s io m p → in_s io n p) → st_b mK m = true) → ∀ y, y = nI m + 1 → wX_fillTable_85 post (nI n) d y sN sC sW pP pD pE c.1 tc lV bU pL wH sE kd ox oy oz wd fo su rd dp nx en hS wO nO nW c.2.1 c.2.2.1 c.2.2.2.1 c.2.2.2.2 eo so ne io td tf tb vA cH mK cA sK := by
        intro hq y ey
        have e2 := ey.trans (nI_1 m)
        subst e2
        refine ih (m + 1) mK vA (by omega) (by omega) (by omega) hI hin (fun k k1 k2 k3 k4 => ?_)
        by_cases q : k = m
        · rw [q] at k3 k4 ⊢; exact hq k3 k4
        · exact hB k k1 (by omega) k3 k4
      refine gf_isM (by omega) (fun z => br_t rfl ⟨hmin, ?_⟩) (fun z => br_f (by decide) (next (fun _ _ => z)))
      rw [hmc]
      rcases hl m (by omega) with y | ⟨a, b, y1, y2, y3, y4⟩
      · exact br_t (by rw [y]; decide) (next (fun q => absurd y q))
      · have gm : c.2.1 m ≠ -1 := by rw [y1]; exact nr_ne (by omega)
        have ok := (hio m (by omega)).2 gm
        rw [y1, y2, nI_clamp (by omega), nI_clamp (by omega)] at ok
        have legm : ∀ l, l < m → lg_in c io m l → (∀ p, p < 360 → in_s io m p → in_s io n p) → st_b mK l = true := by
          intro l hl' q sub
          rcases q with q | ⟨q1, q2⟩
          · exact hin l (by omega) (sub l (by omega) q)
          · obtain ⟨p, p1, p2⟩ := hne l (by omega) q1
            have := hf p (by omega) (sub p (by omega) (q2 p (by omega) p2))
            exact hB l (by omega) hl' q1 (fun p hp e => sub p hp (q2 p hp e))
        have sa : c.2.1 m >>> ((1 : Int32) &&& 31) = nI (a / 2) := by rw [y1]; exact pk_shrN (by omega) _ 1 (by decide)
        have sb : c.2.2.1 m >>> ((1 : Int32) &&& 31) = nI (b / 2) := by rw [y2]; exact pk_shrN (by omega) _ 1 (by decide)
        refine br_f (by rw [y1]; exact nI_pos (by omega)) ⟨hmin, ?_⟩
        rw [sa]
        refine gf_isM (by omega) (fun z1 => br_t rfl (next (fun _ sub => ?_))) (fun z1 => br_f (by decide) ⟨hmin, ?_⟩)
        · rw [legm _ (by omega) ok.1 sub] at z1; exact Bool.noConfusion z1
        rw [sb]
        refine gf_isM (by omega) (fun z2 => br_t rfl (next (fun _ sub => ?_))) (fun z2 => br_f (by decide) ⟨hmin, ?_⟩)
        · rw [legm _ (by omega) ok.2 sub] at z2; exact Bool.noConfusion z2
        refine gf_case (c := c) ⟨a, y1, by omega, by omega⟩ ?_
        intro x hx
        refine ⟨hmin, ?_⟩
        refine gf_case (c := c) ⟨b, y2, by omega, by omega⟩ ?_
        intro x' hx'
        refine ⟨hmin, ?_⟩
        intro vA' ev
        refine gf_mark (by omega) ?_
        intro mK' hm
        intro y' ey
        have e2 := ey.trans (nI_1 m)
        subst e2 ev
        refine ih (m + 1) mK' _ (by omega) (by omega) (by omega) (fun w hw k hk hs => ?_) (fun p hp e => by rw [hm, hin p hp e]; simp) (fun k k1 k2 k3 k4 => ?_)
        · by_cases q : k = m
          · rw [q, pk_uLs, and_16 (ix_lt io n w), Int64.toBitVec_and, BitVec.getLsbD_and]
            have i64 : ix_w io n w < 64 := Nat.lt_trans (ix_lt io n w) (by decide)
            rw [hx _ i64, hx' _ i64, y1, y2, hw.2 m (by omega) gm, y1, y2]
            have l1 : nb_lit (fun k => (vA k).toBitVec.getLsbD (ix_w io n w)) (nI a) = nb_lit w (nI a) := by
              rw [nb_litN _ (by omega), nb_litN _ (by omega), hI w hw (a / 2) (by omega) z1]
            have l2 : nb_lit (fun k => (vA k).toBitVec.getLsbD (ix_w io n w)) (nI b) = nb_lit w (nI b) := by
              rw [nb_litN _ (by omega), nb_litN _ (by omega), hI w hw (b / 2) (by omega) z2]
            rw [l1, l2]
          · rw [pk_uLn q]
            refine hI w hw k hk ?_
            rw [hm] at hs
            simpa [q] using hs
        · rw [hm]
          by_cases q : k = m
          · simp [q]
          · rw [hB k k1 (by omega) k3 k4]; simp
end
end
section
/-! fillTable, chooseTables -/
section
variable {sN sC sW pP pD pE tc lV bU pL wH sE : Int32} {kd ox oy oz wd fo su rd dp nx en hS wO nO nW eo so ne io td tb : Nat → Int32} {cH cA sK : Nat → Int64}
theorem gf_20 {post : SX → Prop} {c : ga_C} {S B n : Nat} (h : ga_ok c S B) (hr : S + B ≤ 355) (hn : n < ga_M c) (hg : c.2.1 n ≠ -1) (hio : ∀ k, k < ga_M c → in_ok c io k) (hca : ca_ok cA)
    {tf : Nat → Int32} (K : ∀ mK' vA' tf', (∀ k, k ≠ n → tf' k = tf k) → tb_ok c io tf' n → post (sN, sC, sW, pP, pD, pE, c.1, tc, lV, bU, pL, wH, sE, kd, ox, oy, oz, wd, fo, su, rd, dp, nx, en, hS, wO, nO, nW, c.2.1, c.2.2.1, c.2.2.2.1, c.2.2.2.2, eo, so, ne, io, td, tf', tb, vA', cH, mK', cA, sK)) :
    ∀ (d i f : Nat) (mK vA : Nat → Int64), 4 < d + i → i ≤ 4 → f ≤ n → fm_v c io n mK vA → (∀ j p, j < i → p < 360 → io (4 * n + j) = nI p → st_b mK p = true ∧ f ≤ p) → wX_fillTable_20 post (nI n) d (nI f) (nI i) sN sC sW pP pD pE c.1 tc lV bU pL wH sE kd ox oy oz wd fo su rd dp nx en hS wO nO nW c.2.1 c.2.2.1 c.2.2.2.1 c.2.2.2.2 eo so ne io td tf tb vA cH mK cA sK := by
  have hM := h.2.2.1
  intro d
  induction d with
  | zero => intro i f mK vA h1 h2; omega
  | succ d ih =>
    intro i f mK vA h1 h2 h3 hI hj
    unfold wX_fillTable_20
    refine pk_le 4 i (fun hle => ?_) (fun hlt => ?_)
    · refine ⟨n + 2, gf_85 (f := f) h hr hn hg hio ?_ K (n + 2) f mK vA (by omega) (by omega) (by omega) hI ?_ (fun k h1 h2 => by omega)⟩
      · rintro p hp ⟨j, j1, j2⟩
        exact (hj j p (by omega) hp j2).2
      · rintro p hp ⟨j, j1, j2⟩
        exact (hj j p (by omega) hp j2).1
    · have hin : vp_in ((4 * nI n) + nI i) 1440 := by rw [gi_ix]; exact vp_in_nI (by omega) (by omega)
      have hc : ((4 * nI n) + nI i).toNatClampNeg = 4 * n + i := by rw [gi_ix]; exact nI_clamp (by omega)
      refine ⟨hin, ?_⟩
      intro x ex
      rw [hc] at ex
      rcases (hio n hn).1 i hlt with z | ⟨p, z1, z2⟩
      · rw [z] at ex
        subst ex
        refine br_f (by decide) ?_
        intro y ey
        have e2 := ey.trans (nI_1 i)
        subst e2
        refine ih (i + 1) f mK vA (by omega) (by omega) h3 hI (fun j q j1 j2 j3 => ?_)
        by_cases e : j = i
        · rw [e, z] at j3
          exact absurd j3.symm (nr_ne (by omega))
        · exact hj j q (by omega) j2 j3
      · rw [z1] at ex
        subst ex
        refine br_t (nI_pos' (by omega)) ?_
        refine gf_mark (by omega) ?_
        intro mK' hm
        refine ⟨vp_in_nI (by omega) (by omega), vp_in_nI (by omega) (by omega), ?_⟩
        intro vA' ev
        rw [nI_clamp (by omega), nI_clamp (by omega)] at ev
        have fm : fm_v c io n mK' vA' := by
          intro w hw m hm' hs
          rw [ev]
          by_cases e : m = p
          · rw [e, pk_uLs, and_16 (ix_lt io n w), hca i _ (by omega) (Nat.lt_trans (ix_lt io n w) (by decide)), ix_tb hlt z1 (by omega)]
          · rw [pk_uLn e]
            refine hI w hw m hm' ?_
            rw [hm] at hs
            simpa [e] using hs
        have hj' : ∀ f', f' ≤ f → f' ≤ p → ∀ j q, j < i + 1 → q < 360 → io (4 * n + j) = nI q → st_b mK' q = true ∧ f' ≤ q := by
          intro f' l1 l2 j q j1 j2 j3
          by_cases e : j = i
          · rw [e, z1, nI_eq (by omega) (by omega)] at j3
            rw [← j3, hm]
            exact ⟨by simp, l2⟩
          · have y := hj j q (by omega) j2 j3
            rw [hm, y.1]
            exact ⟨by simp, by omega⟩
        refine pk_le f p (fun l => ?_) (fun l => ?_)
        · intro y ey
          have e2 := ey.trans (nI_1 i)
          subst e2
          exact ih (i + 1) f mK' vA' (by omega) (by omega) h3 fm (hj' f (Nat.le_refl _) l)
        · intro y ey
          have e2 := ey.trans (nI_1 i)
          subst e2
          exact ih (i + 1) p mK' vA' (by omega) (by omega) (by omega) fm (hj' p (by omega) (Nat.le_refl _))
variable {c : ga_C} {mK vA : Nat → Int64} {tf : Nat → Int32}
theorem gf_fill {post : SX → Prop} {S B n : Nat} (h : ga_ok c S B) (hr : S + B ≤ 355) (hn : n < ga_M c) (hg : c.2.1 n ≠ -1) (hio : ∀ k, k < ga_M c → in_ok c io k) (hca : ca_ok cA)
    (K : ∀ mK' vA' tf', (∀ k, k ≠ n → tf' k = tf k) → tb_ok c io tf' n → post (sN, sC, sW, pP, pD, pE, c.1, tc, lV, bU, pL, wH, sE, kd, ox, oy, oz, wd, fo, su, rd, dp, nx, en, hS, wO, nO, nW, c.2.1, c.2.2.1, c.2.2.2.1, c.2.2.2.2, eo, so, ne, io, td, tf', tb, vA', cH, mK', cA, sK)) : wpX_fillTable post (sN, sC, sW, pP, pD, pE, c.1, tc, lV, bU, pL, wH, sE, kd, ox, oy, oz, wd, fo, su, rd, dp, nx, en, hS, wO, nO, nW, c.2.1, c.2.2.1, c.2.2.2.1, c.2.2.2.2, eo, so, ne, io, td, tf, tb, vA, cH, mK, cA, sK) (nI n) := by
  have hM := h.2.2.1
  unfold wpX_fillTable
  refine gf_clr ?_
  intro mK1 h1
  refine gf_mark (n := 0) (by omega) ?_
  intro mK2 h2
  intro vA' ev
  refine ⟨5, gf_20 h hr hn hg hio hca K 5 0 n mK2 vA' (by omega) (by omega) (Nat.le_refl _) (fun w hw m hm hs => ?_) (fun j p j1 => by omega)⟩
  rw [h2, h1 m (by omega)] at hs
  have e : m = 0 := by simpa using hs
  rw [e, ev, pk_uLs, hw.1]
  show (0#64).getLsbD _ = false
  simp
end
/-- the nodes whose values are known -/
def kn_n (c : ga_C) (tb : Nat → Int32) (T n : Nat) : Prop := n < ga_M c ∧ (c.2.1 n = -1 ∨ ∃ t, t < T ∧ tb t = nI n)
def tl_ok (c : ga_C) (io tf tb : Nat → Int32) (T N : Nat) (kd wd eo ne : Nat → Int32) : Prop :=
  T ≤ 276 ∧ (∀ t, t < T → ∃ n, tb t = nI n ∧ n < ga_M c ∧ c.2.1 n ≠ -1 ∧ tb_ok c io tf n ∧ iv_n io n ∧ ∀ p, p < 360 → in_s io n p → kn_n c tb T p) ∧
  (∀ t t' n n', t < t' → t' < T → n < 360 → n' < 360 → tb t = nI n → tb t' = nI n' → n < n') ∧
  (∀ s i, s < N → i < cl_n wd s → kn_n c tb T ((eo (6 * s + i)).toNatClampNeg / 2)) ∧
  (∀ b, b < 160 → s2_b N kd wd b → kn_n c tb T ((ne b).toNatClampNeg / 2))
section
variable {sN sC sW pP pD pE lV bU pL wH sE : Int32} {kd ox oy oz wd fo su rd dp nx en hS wO nO nW eo so ne io td : Nat → Int32} {cH cA sK : Nat → Int64}
theorem gt_232 {post : SX → Prop} {c : ga_C} {S B T : Nat} {tb : Nat → Int32} (h : ga_ok c S B) (hr : S + B ≤ 355) (hio : ∀ k, k < ga_M c → in_ok c io k) (hca : ca_ok cA) (hT : T ≤ 276) (htb : ∀ t, t < T → ∃ n, tb t = nI n ∧ n < ga_M c ∧ c.2.1 n ≠ -1)
    (K : ∀ mK' vA' tf', (∀ t n, t < T → tb t = nI n → n < ga_M c → tb_ok c io tf' n) → post (sN, sC, sW, pP, pD, pE, c.1, nI T, lV, bU, pL, wH, sE, kd, ox, oy, oz, wd, fo, su, rd, dp, nx, en, hS, wO, nO, nW, c.2.1, c.2.2.1, c.2.2.2.1, c.2.2.2.2, eo, so, ne, io, td, tf', tb, vA', cH, mK', cA, sK)) :
    ∀ (d t : Nat) (mK vA : Nat → Int64) (tf : Nat → Int32), T < d + t → t ≤ T → (∀ t' n, t' < t → tb t' = nI n → n < ga_M c → tb_ok c io tf n) → wX_chooseTables_232 post d (nI t) sN sC sW pP pD pE c.1 (nI T) lV bU pL wH sE kd ox oy oz wd fo su rd dp nx en hS wO nO nW c.2.1 c.2.2.1 c.2.2.2.1 c.2.2.2.2 eo so ne io td tf tb vA cH mK cA sK := by
  have hM := h.2.2.1
  intro d
  induction d with
  | zero => intro t mK vA tf h1 h2; omega
  | succ d ih =>
    intro t mK vA tf h1 h2 hI
    unfold wX_chooseTables_232
    refine pk_le T t (fun hle => ?_) (fun hlt => ?_)
    · exact K mK vA tf (fun t' n h1 => hI t' n (by omega))
    · refine ⟨vp_in_nI (by omega) (by omega), ?_⟩
      obtain ⟨n, n1, n2, n3⟩ := htb t hlt
      rw [nI_clamp (by omega), n1]
      refine gf_fill h hr n2 n3 hio hca ?_
      intro mK' vA' tf' f1 f2
      intro y ey
      have e2 := ey.trans (nI_1 t)
      subst e2
      refine ih (t + 1) mK' vA' tf' (by omega) (by omega) (fun t' m t1 t2 t3 => ?_)
      by_cases q : m = n
      · rw [q]; exact f2
      · by_cases e : t' = t
        · rw [e, n1, nI_eq (by omega) (by omega)] at t2
          exact absurd t2.symm q
        · intro w hw
          rw [f1 m q]
          exact hI t' m (by omega) t2 t3 w hw
/-- what the list of tables holds -/
def tb_s (c : ga_C) (mK : Nat → Int64) (tb : Nat → Int32) (T n : Nat) : Prop :=
  T ≤ ga_cnt c.2.1 n ∧ (∀ t, t < T → ∃ k, tb t = nI k ∧ k < n ∧ c.2.1 k ≠ -1 ∧ st_b mK k = true) ∧ (∀ k, k < n → c.2.1 k ≠ -1 → st_b mK k = true → ∃ t, t < T ∧ tb t = nI k) ∧
  (∀ t t' a b, t < t' → t' < T → a < 360 → b < 360 → tb t = nI a → tb t' = nI b → a < b)
theorem gt_175 {post : SX → Prop} {c : ga_C} {S B : Nat} {mK vA : Nat → Int64} {tf : Nat → Int32} (h : ga_ok c S B) (hr : S + B ≤ 355) (hB : B ≤ 276)
    (K : ∀ T tb', tb_s c mK tb' T (ga_M c) → ∃ n, wX_chooseTables_232 post n 0 sN sC sW pP pD pE c.1 (nI T) lV bU pL wH sE kd ox oy oz wd fo su rd dp nx en hS wO nO nW c.2.1 c.2.2.1 c.2.2.2.1 c.2.2.2.2 eo so ne io td tf tb' vA cH mK cA sK) :
    ∀ (d n T : Nat) (tb : Nat → Int32), ga_M c < d + n → 1 ≤ n → n ≤ ga_M c → tb_s c mK tb T n → wX_chooseTables_175 post sN sC sW pP pD pE c.1 lV bU pL wH sE d (nI n) (nI T) kd ox oy oz wd fo su rd dp nx en hS wO nO nW c.2.1 c.2.2.1 c.2.2.2.1 c.2.2.2.2 eo so ne io td tf tb vA cH mK cA sK := by
  have hM := h.2.2.1
  have hcM := h.2.2.2.1
  have cm : ∀ a b, a ≤ b → ga_cnt c.2.1 a ≤ ga_cnt c.2.1 b := by
    intro a b
    induction b with
    | zero => intro h; rw [show a = 0 from by omega]; exact Nat.le_refl _
    | succ b ih =>
      intro h
      by_cases e : a = b + 1
      · rw [e]; exact Nat.le_refl _
      · exact Nat.le_trans (ih (by omega)) (Nat.le_add_right _ _)
  intro d
  induction d with
  | zero => intro n T tb h1 h2 h3; omega
  | succ d ih =>
    intro n T tb h1 h2 h3 hI
    unfold wX_chooseTables_175
    refine pk_le (ga_M c) n (fun hle => ?_) (fun hlt => ?_) h.1
    · have e : n = ga_M c := by omega
      rw [e] at hI
      exact K T tb hI
    · obtain ⟨i1, i2, i3, i4⟩ := hI
      have hmin : vp_in (nI n) 360 := vp_in_nI (by omega) (by omega)
      have hmc : (nI n).toNatClampNeg = n := nI_clamp (by omega)
      have c1 : ga_cnt c.2.1 (n + 1) = ga_cnt c.2.1 n + (if c.2.1 n = -1 then 0 else 1) := rfl
      have skip : (c.2.1 n ≠ -1 → st_b mK n = true → False) → ∀ y, y = nI n + 1 → wX_chooseTables_175 post sN sC sW pP pD pE c.1 lV bU pL wH sE d y (nI T) kd ox oy oz wd fo su rd dp nx en hS wO nO nW c.2.1 c.2.2.1 c.2.2.2.1 c.2.2.2.2 eo so ne io td tf tb vA cH mK cA sK := by
        intro hq y ey
        have e2 := ey.trans (nI_1 n)
        subst e2
        refine ih (n + 1) T tb (by omega) (by omega) (by omega) ⟨Nat.le_trans i1 (cm _ _ (by omega)), fun t ht => ?_, fun k k1 k2 k3 => ?_, i4⟩
        · obtain ⟨k, k1, k2, k3⟩ := i2 t ht
          exact ⟨k, k1, by omega, k3⟩
        · by_cases q : k = n
          · rw [q] at k2 k3; exact absurd (hq k2 k3) (fun z => z)
          · exact i3 k (by omega) k2 k3
      refine gf_isM (by omega) (fun z => br_t rfl (skip (fun _ y => by rw [z] at y; exact Bool.noConfusion y))) (fun z => br_f (by decide) ⟨hmin, ?_⟩)
      rw [hmc]
      rcases h.2.2.2.2.2.1 n hlt with y | ⟨a, b, y1, y2, y3, y4⟩
      · exact br_f (by rw [y]; decide) (skip (fun q => absurd y q))
      · have gn : c.2.1 n ≠ -1 := by rw [y1]; exact nr_ne (by omega)
        have c2 := cm (n + 1) (ga_M c) hlt
        rw [c1, if_neg gn] at c2
        refine br_t (by rw [y1]; exact nI_pos' (by omega)) ⟨vp_in_nI (by omega) (by omega), ?_⟩
        intro tb' et
        rw [nI_clamp (by omega), nr_s (by omega)] at et
        intro T' eT
        intro y' ey
        have e2 := ey.trans (nI_1 n)
        have e3 := eT.trans (nI_1 T)
        subst e2 e3 et
        refine ih (n + 1) (T + 1) _ (by omega) (by omega) (by omega) ⟨?_, fun t ht => ?_, fun k k1 k2 k3 => ?_, fun t t' p q t1 t2 p1 q1 tp tq => ?_⟩
        · rw [c1, if_neg gn]; omega
        · by_cases q : t = T
          · exact ⟨n, by rw [q, pk_us], by omega, gn, z⟩
          · obtain ⟨k, k1, k2, k3⟩ := i2 t (by omega)
            exact ⟨k, by rw [pk_un q]; exact k1, by omega, k3⟩
        · by_cases q : k = n
          · exact ⟨T, by omega, by rw [q, pk_us]⟩
          · obtain ⟨t, t1, t2⟩ := i3 k (by omega) k2 k3
            exact ⟨t, by omega, by rw [pk_un (by omega)]; exact t2⟩
        · rw [pk_un (by omega)] at tp
          by_cases e : t' = T
          · rw [e, pk_us, nI_eq (by omega) (by omega)] at tq
            obtain ⟨k, k1, k2, k3⟩ := i2 t (by omega)
            rw [k1, nI_eq (by omega) (by omega)] at tp
            omega
          · rw [pk_un e] at tq
            exact i4 t t' p q t1 (by omega) p1 q1 tp tq
end
section
variable {sN sC sW pP pD pE tc lV bU pL wH sE : Int32} {kd ox oy oz wd fo su rd dp nx en hS wO nO nW eo so ne io td tf tb : Nat → Int32} {vA cH cA sK : Nat → Int64}
theorem gt_124 {post : SX → Prop} {J : Int32 → Int32 → Int32 → Int32 → Int32 → Int32 → Int32 → Int32 → Int32 → Int32 → Int32 → Int32 → Int32 → Int32 → (Nat → Int32) → (Nat → Int32) → (Nat → Int32) → (Nat → Int32) → (Nat → Int32) → (Nat → Int32) → (Nat → Int32) → (Nat → Int32) → (Nat → Int32) → (Nat → Int32) → (Nat → Int32) → (Nat → Int32) → (Nat → Int32) → (Nat → Int32) → (Nat → Int32) → (Nat → Int32) → (Nat → Int32) → (Nat → Int32) → (Nat → Int32) → (Nat → Int32) → (Nat → Int32) → (Nat → Int32) → (Nat → Int32) → (Nat → Int32) → (Nat → Int32) → (Nat → Int32) → (Nat → Int64) → (Nat → Int64) → (Nat → Int64) → (Nat → Int64) → (Nat → Int64) → Prop} {c : ga_C} {n : Nat} {mK0 : Nat → Int64} (hn : n + 1 < 360) (hv : iv_n io (n + 1)) (K : ∀ mK', (∀ j, st_b mK0 j = true → st_b mK' j = true) → (∀ p, p < 360 → in_s io (n + 1) p → st_b mK' p = true) → (∀ j, n + 1 ≤ j → st_b mK' j = st_b mK0 j) → J (nI n) sN sC sW pP pD pE c.1 tc lV bU pL wH sE kd ox oy oz wd fo su rd dp nx en hS wO nO nW c.2.1 c.2.2.1 c.2.2.2.1 c.2.2.2.2 eo so ne io td tf tb vA cH mK' cA sK) :
    ∀ (d i : Nat) (mK : Nat → Int64), 4 < d + i → i ≤ 4 → (∀ j, st_b mK0 j = true → st_b mK j = true) → (∀ j p, j < i → p < 360 → io (4 * (n + 1) + j) = nI p → st_b mK p = true) → (∀ j, n + 1 ≤ j → st_b mK j = st_b mK0 j) → wX_chooseTables_124 post J (nI (n + 1)) d (nI i) sN sC sW pP pD pE c.1 tc lV bU pL wH sE kd ox oy oz wd fo su rd dp nx en hS wO nO nW c.2.1 c.2.2.1 c.2.2.2.1 c.2.2.2.2 eo so ne io td tf tb vA cH mK cA sK := by
  intro d
  induction d with
  | zero => intro i mK h1 h2; omega
  | succ d ih =>
    intro i mK h1 h2 hs hI hh
    unfold wX_chooseTables_124
    refine pk_le 4 i (fun hle => ?_) (fun hlt => ?_)
    · intro y ey
      have e2 := ey.trans (pk_m1 n)
      subst e2
      refine K mK hs ?_ hh
      rintro p hp ⟨j, j1, j2⟩
      exact hI j p (by omega) hp j2
    · have hin : vp_in ((4 * nI (n + 1)) + nI i) 1440 := by rw [gi_ix]; exact vp_in_nI (by omega) (by omega)
      have hc : ((4 * nI (n + 1)) + nI i).toNatClampNeg = 4 * (n + 1) + i := by rw [gi_ix]; exact nI_clamp (by omega)
      refine ⟨hin, ?_⟩
      rw [hc]
      rcases hv i hlt with z | ⟨p, z1, z2⟩
      · refine br_t (by rw [z]; decide) ?_
        intro y ey
        have e2 := ey.trans (nI_1 i)
        subst e2
        refine ih (i + 1) mK (by omega) (by omega) hs (fun j q j1 j2 j3 => ?_) hh
        by_cases e : j = i
        · rw [e, z] at j3
          exact absurd j3.symm (nr_ne (by omega))
        · exact hI j q (by omega) j2 j3
      · refine br_f (by rw [z1]; exact nI_pos (by omega)) ⟨hin, ?_⟩
        rw [z1]
        refine gf_mark (by omega) ?_
        intro mK' hm
        intro y ey
        have e2 := ey.trans (nI_1 i)
        subst e2
        refine ih (i + 1) mK' (by omega) (by omega) (fun j hj => by rw [hm, hs j hj]; simp) (fun j q j1 j2 j3 => ?_) (fun j hj => ?_)
        · rw [hm]
          by_cases e : j = i
          · rw [e, z1, nI_eq (by omega) (by omega)] at j3
            simp [j3]
          · rw [hI j q (by omega) j2 j3]; simp
        · have e : ¬ j = p := by omega
          rw [hm, hh j hj]
          simp [e]
theorem gt_98 {post : SX → Prop} {c : ga_C} {S B : Nat} {mK0 : Nat → Int64} (h : ga_ok c S B) (hr : S + B ≤ 355) (hio : ∀ k, k < ga_M c → in_ok c io k)
    (K : ∀ mK', (∀ j, st_b mK0 j = true → st_b mK' j = true) → (∀ k, k < ga_M c → c.2.1 k ≠ -1 → st_b mK' k = true → ∀ p, p < 360 → in_s io k p → st_b mK' p = true) → ∃ n, wX_chooseTables_175 post sN sC sW pP pD pE c.1 lV bU pL wH sE n 1 0 kd ox oy oz wd fo su rd dp nx en hS wO nO nW c.2.1 c.2.2.1 c.2.2.2.1 c.2.2.2.2 eo so ne io td tf tb vA cH mK' cA sK) :
    ∀ (d n : Nat) (mK : Nat → Int64), n < d → n < ga_M c → (∀ j, st_b mK0 j = true → st_b mK j = true) → (∀ k, n < k → k < ga_M c → c.2.1 k ≠ -1 → st_b mK k = true → ∀ p, p < 360 → in_s io k p → st_b mK p = true) → wX_chooseTables_98 post d (nI n) sN sC sW pP pD pE c.1 tc lV bU pL wH sE kd ox oy oz wd fo su rd dp nx en hS wO nO nW c.2.1 c.2.2.1 c.2.2.2.1 c.2.2.2.2 eo so ne io td tf tb vA cH mK cA sK := by
  have hM := h.2.2.1
  intro d
  induction d with
  | zero => intro n mK h1; omega
  | succ d ih =>
    intro n mK h1 h2 hs hI
    unfold wX_chooseTables_98
    refine pk_le n 0 (fun hle => ?_) (fun hlt => ?_)
    · refine K mK hs (fun k k1 k2 k3 => ?_)
      by_cases e : k = 0
      · rw [e] at k2; exact absurd h.2.2.2.2.1 k2
      · exact hI k (by omega) k1 k2 k3
    · obtain ⟨m, rfl⟩ : ∃ m, n = m + 1 := ⟨n - 1, by omega⟩
      have hmin : vp_in (nI (m + 1)) 360 := vp_in_nI (by omega) (by omega)
      have hmc : (nI (m + 1)).toNatClampNeg = m + 1 := nI_clamp (by omega)
      have skip : (c.2.1 (m + 1) ≠ -1 → st_b mK (m + 1) = true → False) → ∀ y, y = nI (m + 1) + (-1) → wX_chooseTables_98 post d y sN sC sW pP pD pE c.1 tc lV bU pL wH sE kd ox oy oz wd fo su rd dp nx en hS wO nO nW c.2.1 c.2.2.1 c.2.2.2.1 c.2.2.2.2 eo so ne io td tf tb vA cH mK cA sK := by
        intro hq y ey
        have e2 := ey.trans (pk_m1 m)
        subst e2
        refine ih m mK (by omega) (by omega) hs (fun k k1 k2 k3 k4 => ?_)
        by_cases e : k = m + 1
        · rw [e] at k3 k4; exact absurd (hq k3 k4) (fun z => z)
        · exact hI k (by omega) k2 k3 k4
      refine gf_isM (by omega) (fun z => br_t rfl (skip (fun _ y => by rw [z] at y; exact Bool.noConfusion y))) (fun z => br_f (by decide) ⟨hmin, ?_⟩)
      rw [hmc]
      rcases h.2.2.2.2.2.1 (m + 1) h2 with y | ⟨a, b, y1, y2, y3, y4⟩
      · exact br_f (by rw [y]; decide) (skip (fun q => absurd y q))
      · refine br_t (by rw [y1]; exact nI_pos' (by omega)) ?_
        refine ⟨5, gt_124 (mK0 := mK) (by omega) (hio (m + 1) h2).1 ?_ 5 0 mK (by omega) (by omega) (fun j hj => hj) (fun j p j1 => by omega) (fun j hj => rfl)⟩
        intro mK' f1 f2 f3
        refine ih m mK' (by omega) (by omega) (fun j hj => f1 j (hs j hj)) (fun k k1 k2 k3 k4 p hp e => ?_)
        by_cases q : k = m + 1
        · rw [q] at e; exact f2 p hp e
        · rw [f3 k (by omega)] at k4
          exact f1 p (hI k (by omega) k2 k3 k4 p hp e)
theorem gt_57 {post : SX → Prop} {c : ga_C} {N S B : Nat} {mK0 : Nat → Int64} (h : ga_ok c S B) (hr : S + B ≤ 355) (hN : N ≤ 24) (hsN : sN = nI N) (hd : ∀ t, t < N → df_s kd ox oy oz wd t) (hne : ∀ b, b < 160 → s2_b N kd wd b → ga_en c (ne b))
    (K : ∀ mK', (∀ j, st_b mK0 j = true → st_b mK' j = true) → (∀ b, b < 160 → s2_b N kd wd b → st_b mK' ((ne b).toNatClampNeg / 2) = true) → ∃ n, wX_chooseTables_98 post n (nI (ga_M c - 1)) sN sC sW pP pD pE c.1 tc lV bU pL wH sE kd ox oy oz wd fo su rd dp nx en hS wO nO nW c.2.1 c.2.2.1 c.2.2.2.1 c.2.2.2.2 eo so ne io td tf tb vA cH mK' cA sK) :
    ∀ (d i : Nat) (mK : Nat → Int64), 160 < d + i → i ≤ 160 → (∀ j, st_b mK0 j = true → st_b mK j = true) → (∀ b, b < i → s2_b N kd wd b → st_b mK ((ne b).toNatClampNeg / 2) = true) → wX_chooseTables_57 post d (nI i) sN sC sW pP pD pE c.1 tc lV bU pL wH sE kd ox oy oz wd fo su rd dp nx en hS wO nO nW c.2.1 c.2.2.1 c.2.2.2.1 c.2.2.2.2 eo so ne io td tf tb vA cH mK cA sK := by
  have hM := h.2.2.1
  intro d
  induction d with
  | zero => intro i mK h1 h2; omega
  | succ d ih =>
    intro i mK h1 h2 hs hI
    unfold wX_chooseTables_57
    refine pk_le 160 i (fun hle => ?_) (fun hlt => ?_)
    · intro y ey
      have e2 : y = nI (ga_M c - 1) := by rw [ey, h.1]; exact pk_sub (b := 1) h.2.1
      subst e2
      exact K mK hs (fun b hb => hI b (by omega))
    · refine gk_sort hN hsN hlt hd (fun q => br_t rfl ⟨vp_in_nI (by omega) (by omega), ?_⟩) (fun q r hr => br_f hr ?_)
      · rw [nI_clamp (by omega)]
        obtain ⟨m, m1, m2, m3⟩ := hne i hlt q
        rw [m1, show nI m >>> ((1 : Int32) &&& 31) = nI (m / 2) from pk_shrN (by omega) _ 1 (by decide)]
        refine gf_mark (by omega) ?_
        intro mK' hm
        intro y ey
        have e2 := ey.trans (nI_1 i)
        subst e2
        refine ih (i + 1) mK' (by omega) (by omega) (fun j hj => by rw [hm, hs j hj]; simp) (fun b hb s2 => ?_)
        rw [hm]
        by_cases e : b = i
        · rw [e, m1, nI_clamp (by omega)]; simp
        · rw [hI b (by omega) s2]; simp
      · intro y ey
        have e2 := ey.trans (nI_1 i)
        subst e2
        refine ih (i + 1) mK (by omega) (by omega) hs (fun b hb s2 => ?_)
        by_cases e : b = i
        · rw [e] at s2; exact absurd s2 q
        · exact hI b (by omega) s2
theorem gt_16 {post : SX → Prop} {J : Int32 → Int32 → Int32 → Int32 → Int32 → Int32 → Int32 → Int32 → Int32 → Int32 → Int32 → Int32 → Int32 → Int32 → (Nat → Int32) → (Nat → Int32) → (Nat → Int32) → (Nat → Int32) → (Nat → Int32) → (Nat → Int32) → (Nat → Int32) → (Nat → Int32) → (Nat → Int32) → (Nat → Int32) → (Nat → Int32) → (Nat → Int32) → (Nat → Int32) → (Nat → Int32) → (Nat → Int32) → (Nat → Int32) → (Nat → Int32) → (Nat → Int32) → (Nat → Int32) → (Nat → Int32) → (Nat → Int32) → (Nat → Int32) → (Nat → Int32) → (Nat → Int32) → (Nat → Int32) → (Nat → Int32) → (Nat → Int64) → (Nat → Int64) → (Nat → Int64) → (Nat → Int64) → (Nat → Int64) → Prop} {c : ga_C} {s W : Nat} {mK0 : Nat → Int64} (hs : s < 24) (hW : W ≤ 6) (hwd : wd s = nI W) (hen : ∀ i, i < W → ga_en c (eo (6 * s + i)))
    (K : ∀ mK', (∀ j, st_b mK0 j = true → st_b mK' j = true) → (∀ i, i < W → st_b mK' ((eo (6 * s + i)).toNatClampNeg / 2) = true) → J (nI (s + 1)) sN sC sW pP pD pE c.1 tc lV bU pL wH sE kd ox oy oz wd fo su rd dp nx en hS wO nO nW c.2.1 c.2.2.1 c.2.2.2.1 c.2.2.2.2 eo so ne io td tf tb vA cH mK' cA sK) :
    ∀ (d i : Nat) (mK : Nat → Int64), W < d + i → i ≤ W → (∀ j, st_b mK0 j = true → st_b mK j = true) → (∀ j, j < i → st_b mK ((eo (6 * s + j)).toNatClampNeg / 2) = true) → wX_chooseTables_16 post J (nI s) d (nI i) sN sC sW pP pD pE c.1 tc lV bU pL wH sE kd ox oy oz wd fo su rd dp nx en hS wO nO nW c.2.1 c.2.2.1 c.2.2.2.1 c.2.2.2.2 eo so ne io td tf tb vA cH mK cA sK := by
  have hin : vp_in (nI s) 24 := vp_in_nI hs (by omega)
  have hwd' : wd (nI s).toNatClampNeg = nI W := by rw [nI_clamp (by omega)]; exact hwd
  intro d
  induction d with
  | zero => intro i mK h1 h2; omega
  | succ d ih =>
    intro i mK h1 h2 hs' hI
    unfold wX_chooseTables_16
    refine ⟨hin, pk_le W i (fun hle => ?_) (fun hlt => ?_) hwd'⟩
    · intro y ey
      have e2 := ey.trans (nI_1 s)
      subst e2
      exact K mK hs' (fun j hj => hI j (by omega))
    · have e : (6 * nI s) + nI i = nI (6 * s + i) := by
        rw [show 6 * nI s = nI (6 * s) from pk_mul 6 s, nI_add]
      rw [e, nI_clamp (by omega)]
      refine ⟨vp_in_nI (by omega) (by omega), ?_⟩
      obtain ⟨m, m1, m2, m3⟩ := hen i hlt
      rw [m1, show nI m >>> ((1 : Int32) &&& 31) = nI (m / 2) from pk_shrN (by omega) _ 1 (by decide)]
      refine gf_mark (by omega) ?_
      intro mK' hm
      intro y ey
      have e2 := ey.trans (nI_1 i)
      subst e2
      refine ih (i + 1) mK' (by omega) (by omega) (fun j hj => by rw [hm, hs' j hj]; simp) (fun j hj => ?_)
      rw [hm]
      by_cases q : j = i
      · rw [q, m1, nI_clamp (by omega)]; simp
      · rw [hI j (by omega)]; simp
theorem gt_6 {post : SX → Prop} {c : ga_C} {N : Nat} (hN : N ≤ 24) (hsN : sN = nI N) (hd : ∀ t, t < N → df_s kd ox oy oz wd t) (hen : ∀ s, s < N → ∀ i, i < cl_n wd s → ga_en c (eo (6 * s + i)))
    (K : ∀ mK', (∀ s i, s < N → i < cl_n wd s → st_b mK' ((eo (6 * s + i)).toNatClampNeg / 2) = true) → ∃ n, wX_chooseTables_57 post n 0 sN sC sW pP pD pE c.1 tc lV bU pL wH sE kd ox oy oz wd fo su rd dp nx en hS wO nO nW c.2.1 c.2.2.1 c.2.2.2.1 c.2.2.2.2 eo so ne io td tf tb vA cH mK' cA sK) :
    ∀ (d s : Nat) (mK : Nat → Int64), N < d + s → s ≤ N → (∀ t i, t < s → i < cl_n wd t → st_b mK ((eo (6 * t + i)).toNatClampNeg / 2) = true) → wX_chooseTables_6 post d (nI s) sN sC sW pP pD pE c.1 tc lV bU pL wH sE kd ox oy oz wd fo su rd dp nx en hS wO nO nW c.2.1 c.2.2.1 c.2.2.2.1 c.2.2.2.2 eo so ne io td tf tb vA cH mK cA sK := by
  subst hsN
  intro d
  induction d with
  | zero => intro s mK h1 h2; omega
  | succ d ih =>
    intro s mK h1 h2 hI
    unfold wX_chooseTables_6
    refine pk_le N s (fun hle => ?_) (fun hlt => ?_)
    · exact K mK (fun t i ht => hI t i (by omega))
    · have dd := hd s hlt
      refine ⟨cl_n wd s + 1, gt_16 (mK0 := mK) (by omega) dd.2.2.2.2.1 dd.2.2.1 (hen s hlt) ?_ (cl_n wd s + 1) 0 mK (by omega) (by omega) (fun j hj => hj) (fun j hj => by omega)⟩
      intro mK' f1 f2
      refine ih (s + 1) mK' (by omega) (by omega) (fun t i ht hi => ?_)
      by_cases e : t = s
      · rw [e] at hi ⊢; exact f2 i hi
      · exact f1 _ (hI t i (by omega) hi)
end
section
variable {sN sC sW pP pD pE tc lV bU pL wH sE : Int32} {kd ox oy oz wd fo su rd dp nx en hS wO nO nW eo so ne io td tf tb : Nat → Int32} {vA cH mK cA sK : Nat → Int64}
variable {c : ga_C}
theorem gt_tables {post : SX → Prop} {N : Nat} (h : ga_ok c 76 276) (hN : N ≤ 24) (hsN : sN = nI N) (hd : ∀ t, t < N → df_s kd ox oy oz wd t) (hen : ∀ s, s < N → ∀ i, i < cl_n wd s → ga_en c (eo (6 * s + i))) (hne : ∀ b, b < 160 → s2_b N kd wd b → ga_en c (ne b))
    (hio : ∀ k, k < ga_M c → in_ok c io k) (hca : ca_ok cA)
    (K : ∀ mK' vA' tf' tb' T, tl_ok c io tf' tb' T N kd wd eo ne → post (sN, sC, sW, pP, pD, pE, c.1, nI T, lV, bU, pL, wH, sE, kd, ox, oy, oz, wd, fo, su, rd, dp, nx, en, hS, wO, nO, nW, c.2.1, c.2.2.1, c.2.2.2.1, c.2.2.2.2, eo, so, ne, io, td, tf', tb', vA', cH, mK', cA, sK)) : wpX_chooseTables post (sN, sC, sW, pP, pD, pE, c.1, tc, lV, bU, pL, wH, sE, kd, ox, oy, oz, wd, fo, su, rd, dp, nx, en, hS, wO, nO, nW, c.2.1, c.2.2.1, c.2.2.2.1, c.2.2.2.2, eo, so, ne, io, td, tf, tb, vA, cH, mK, cA, sK) := by
  have hM := h.2.2.1
  unfold wpX_chooseTables
  refine gf_clr ?_
  intro mK0 h0
  refine ⟨N + 1, gt_6 (c := c) hN hsN hd hen ?_ (N + 1) 0 mK0 (by omega) (by omega) (fun t i ht => by omega)⟩
  intro mK1 h1
  refine ⟨161, gt_57 (c := c) (mK0 := mK1) h (by omega) hN hsN hd hne ?_ 161 0 mK1 (by omega) (by omega) (fun j hj => hj) (fun b hb => by omega)⟩
  intro mK2 h2 n2
  refine ⟨ga_M c, gt_98 (c := c) (mK0 := mK2) h (by omega) hio ?_ (ga_M c) (ga_M c - 1) mK2 (by have := h.2.1; omega) (by have := h.2.1; omega) (fun j hj => hj) (fun k k1 k2 => by omega)⟩
  intro mK3 h3 n3
  refine ⟨ga_M c + 1, gt_175 (c := c) (mK := mK3) h (by omega) (by omega) ?_ (ga_M c + 1) 1 0 tb (by omega) (by omega) (by have := h.2.1; omega) ⟨Nat.zero_le _, fun t ht => by omega, fun k k1 k2 => ?_, fun t t' a b t1 t2 => by omega⟩⟩
  · intro T tb' ts
    obtain ⟨s1, s2, s3, s4⟩ := ts
    have hT : T ≤ 276 := Nat.le_trans s1 h.2.2.2.1
    have kn : ∀ p, p < ga_M c → st_b mK3 p = true → kn_n c tb' T p := by
      intro p hp hs
      refine ⟨hp, ?_⟩
      by_cases g : c.2.1 p = -1
      · exact Or.inl g
      · exact Or.inr (s3 p hp g hs)
    refine ⟨T + 1, gt_232 (c := c) (tb := tb') h (by omega) hio hca hT (fun t ht => ?_) ?_ (T + 1) 0 mK3 vA tf (by omega) (by omega) (fun t' n ht => by omega)⟩
    · obtain ⟨k, k1, k2, k3, k4⟩ := s2 t ht
      exact ⟨k, k1, k2, k3⟩
    · intro mK' vA' tf' f
      refine K mK' vA' tf' tb' T ⟨hT, fun t ht => ?_, s4, fun s i hs hi => ?_, fun b hb s2' => ?_⟩
      · obtain ⟨k, k1, k2, k3, k4⟩ := s2 t ht
        refine ⟨k, k1, k2, k3, f t k ht k1 k2, (hio k k2).1, fun p hp e => ?_⟩
        obtain ⟨j, j1, j2⟩ := id e
        have pk : p < k := by
          rcases (hio k k2).1 j j1 with z | ⟨m, z1, z2⟩
          · rw [z] at j2; exact absurd j2.symm (nr_ne (by omega))
          · rw [z1, nI_eq (by omega) (by omega)] at j2; omega
        exact kn p (by omega) (n3 k k2 k3 k4 p hp e)
      · obtain ⟨m, m1, m2, m3⟩ := hen s hs i hi
        refine kn _ (by rw [m1, nI_clamp (by omega)]; omega) (h3 _ (h2 _ (h1 s i hs hi)))
      · obtain ⟨m, m1, m2, m3⟩ := hne b hb s2'
        refine kn _ (by rw [m1, nI_clamp (by omega)]; omega) (h3 _ (n2 b hb s2'))
  · have e : k = 0 := by omega
    rw [e] at k2
    exact absurd h.2.2.2.2.1 k2
end
end
section
/-! loadSources, workGates, workTables -/
theorem lb_eq {a b : Bool} (h : lN a.toNat = lN b.toNat) : a = b := by
  cases a <;> cases b
  · rfl
  · exact absurd h (by decide)
  · exact absurd h (by decide)
  · rfl
theorem lb_i (a : Bool) : (lN a.toNat &&& 1).toInt32 = nI a.toNat := by cases a <;> decide
theorem lb_l (a : Bool) : (nI a.toNat).toInt64 = lN a.toNat := by cases a <;> decide
theorem lb_x (a : Bool) {m : Nat} (h : m % 2 = 0 ∨ m % 2 = 1) : nI a.toNat ^^^ nI (m % 2) = nI (a ^^ decide (m % 2 = 1)).toNat := by
  rcases h with z | z <;> rw [z] <;> cases a <;> decide
theorem lb_a (a b : Bool) : (nI a.toNat &&& nI b.toNat).toInt64 = lN (a && b).toNat := by cases a <;> cases b <;> decide
theorem nx_or (a b : Nat) : nI a ||| nI b = nI (a ||| b) := by
  apply Int32.toBitVec_inj.1
  show BitVec.ofNat 32 a ||| BitVec.ofNat 32 b = BitVec.ofNat 32 (a ||| b)
  apply BitVec.eq_of_getLsbD_eq
  intro i hi
  simp [hi]
theorem ix_acc {a i : Nat} {b : Bool} (ha : a < 2 ^ i) (hi : i < 16) : nI a ||| (nI b.toNat <<< (nI i &&& 31)) = nI (a + b.toNat * 2 ^ i) := by
  have hb : b.toNat ≤ 1 := Bool.toNat_le _
  have h2 : (2 : Nat) ^ i ≤ 2 ^ 15 := Nat.pow_le_pow_right (by decide) (by omega)
  have h3 : b.toNat * 2 ^ i ≤ 1 * 2 ^ i := Nat.mul_le_mul_right _ hb
  rw [pk_shlN (nI i &&& 31) i (s_l i (by omega)) (by omega), nx_or]
  congr 1
  rw [Nat.or_comm, Nat.mul_comm, ← Nat.two_pow_add_eq_or_of_lt ha, Nat.add_comm]
theorem bt_sh (x : Int32) {i : Nat} (hi : i < 32) : ((x >>> (nI i &&& 31)) &&& 1).toInt64 = lN (bt x i).toNat := by
  have e : (x >>> (nI i &&& 31)) &&& 1 = nI (bt x i).toNat := by
    rw [pk_and _ (m := 1) 1 (by decide)]
    congr 1
    have h := b_sshr i hi x (i := 0) (by decide)
    rw [if_pos (by omega), Nat.add_zero] at h
    rw [← h]
    unfold bt
    rw [← BitVec.testBit_toNat, Nat.testBit_zero, Nat.pow_one]
    rcases Nat.mod_two_eq_zero_or_one (x >>> (nI i &&& 31)).toBitVec.toNat with z | z <;> rw [z] <;> rfl
  rw [e, lb_l]
section
variable {sN sC sW pP pD pE tc lV bU pL wH sE : Int32} {kd ox oy oz wd fo su rd dp nx en hS wO nO nW eo so ne io td tf tb : Nat → Int32} {mK cA sK : Nat → Int64}
theorem gl_23 {post : SX → Prop} {c : ga_C} {S B : Nat} {vA0 : Nat → Int64} (h : ga_ok c S B) (hr : S + B ≤ 355) (hso : so_ok c so) (hv : sv_ok hS wO)
    (K : ∀ vA' cH', (∀ b, b < 160 → so b ≠ -1 → vA' (so b).toNatClampNeg = lN (sv_b hS wO b).toNat) → (∀ n, n < 360 → (∀ b, b < 160 → so b ≠ nI n) → vA' n = vA0 n) → (∀ n, n < 360 → st_b cH' n = false → vA' n = vA0 n) → post (sN, sC, sW, pP, pD, pE, c.1, tc, lV, bU, pL, wH, sE, kd, ox, oy, oz, wd, fo, su, rd, dp, nx, en, hS, wO, nO, nW, c.2.1, c.2.2.1, c.2.2.2.1, c.2.2.2.2, eo, so, ne, io, td, tf, tb, vA', cH', mK, cA, sK)) :
    ∀ (d i : Nat) (vA cH : Nat → Int64), 160 < d + i → i ≤ 160 → (∀ b, b < i → so b ≠ -1 → vA (so b).toNatClampNeg = lN (sv_b hS wO b).toNat) → (∀ n, n < 360 → (∀ b, b < 160 → so b ≠ nI n) → vA n = vA0 n) → (∀ n, n < 360 → st_b cH n = false → vA n = vA0 n) → wX_loadSources_23 post sN sC sW pP pD pE c.1 tc lV bU pL wH sE d (nI i) kd ox oy oz wd fo su rd dp nx en hS wO nO nW c.2.1 c.2.2.1 c.2.2.2.1 c.2.2.2.2 eo so ne io td tf tb vA cH mK cA sK := by
  have hM := h.2.2.1
  intro d
  induction d with
  | zero => intro i vA cH h1 h2; omega
  | succ d ih =>
    intro i vA cH h1 h2 hI hu hc
    unfold wX_loadSources_23
    refine pk_le 160 i (fun hle => ?_) (fun hlt => ?_)
    · exact K vA cH (fun b hb => hI b (by omega)) hu hc
    · refine ⟨vp_in_nI (by omega) (by omega), ?_⟩
      intro x ex
      rw [nI_clamp (by omega)] at ex
      rcases hso.1 i hlt with z | ⟨m, z1, z2, z3, z4⟩
      · rw [z] at ex
        subst ex
        refine br_f (by decide) ?_
        intro y ey
        have e2 := ey.trans (nI_1 i)
        subst e2
        refine ih (i + 1) vA cH (by omega) (by omega) (fun b hb hn => ?_) hu hc
        by_cases e : b = i
        · rw [e] at hn; exact absurd z hn
        · exact hI b (by omega) hn
      · rw [z1] at ex
        subst ex
        have zn : so i ≠ -1 := by rw [z1]; exact nr_ne (by omega)
        have zin : vp_in (nI m) 360 := vp_in_nI (by omega) (by omega)
        have zc : (nI m).toNatClampNeg = m := nI_clamp (by omega)
        refine br_t (nI_pos' (by omega)) ?_
        refine gw_stateValue hlt hv ?_
        refine ⟨zin, ?_⟩
        rw [lb_l, zc]
        refine br_c (fun e => ?_) (fun e => ⟨zin, ?_⟩)
        · intro y ey
          have e2 := ey.trans (nI_1 i)
          subst e2
          refine ih (i + 1) vA cH (by omega) (by omega) (fun b hb hn => ?_) hu hc
          by_cases q : b = i
          · rw [q, z1, zc]; exact e
          · exact hI b (by omega) hn
        · intro vA' ev
          have e6 : vp_in (nI m >>> ((6 : Int32) &&& 31)) 6 := by rw [st_sh (by omega)]; exact vp_in_nI (by omega) (by omega)
          refine ⟨e6, e6, ?_⟩
          intro cH' ec
          rw [st_sh (by omega), st_an (by omega), nI_clamp (by omega)] at ec
          intro y ey
          have e2 := ey.trans (nI_1 i)
          subst e2 ec ev
          refine ih (i + 1) _ _ (by omega) (by omega) (fun b hb hn => ?_) (fun n hn hs => ?_) (fun n hn hs => ?_)
          · by_cases q : b = i
            · rw [q, z1, zc, pk_uLs]
            · have e4 : (so b).toNatClampNeg ≠ m := by
                intro e5
                rcases hso.1 b (by omega) with y | ⟨k, y1, y2, y3, y4⟩
                · exact hn y
                · rw [y1, nI_clamp (by omega)] at e5
                  exact q (hso.2 b i (by omega) hlt hn (by rw [y1, z1, e5]))
              rw [pk_uLn e4]
              exact hI b (by omega) hn
          · have e4 : n ≠ m := fun e5 => hs i hlt (by rw [z1, e5])
            rw [pk_uLn e4]; exact hu n hn hs
          · rw [st_set] at hs
            by_cases e4 : n = m
            · rw [e4] at hs; simp at hs
            · rw [pk_uLn e4]
              exact hc n hn (by simpa [e4] using hs)
theorem gl_2 {post : SX → Prop} {c : ga_C} {vA : Nat → Int64} (K : ∀ cH', (∀ n, n < 384 → st_b cH' n = false) → ∃ n, wX_loadSources_23 post sN sC sW pP pD pE c.1 tc lV bU pL wH sE n 0 kd ox oy oz wd fo su rd dp nx en hS wO nO nW c.2.1 c.2.2.1 c.2.2.2.1 c.2.2.2.2 eo so ne io td tf tb vA cH' mK cA sK) :
    ∀ (d i : Nat) (cH : Nat → Int64), 6 < d + i → i ≤ 6 → (∀ j, j < i → cH j = 0) → wX_loadSources_2 post sN sC sW pP pD pE c.1 tc lV bU pL wH sE d (nI i) kd ox oy oz wd fo su rd dp nx en hS wO nO nW c.2.1 c.2.2.1 c.2.2.2.1 c.2.2.2.2 eo so ne io td tf tb vA cH mK cA sK := by
  intro d
  induction d with
  | zero => intro i cH h1 h2; omega
  | succ d ih =>
    intro i cH h1 h2 hI
    unfold wX_loadSources_2
    refine pk_le 6 i (fun hle => ?_) (fun hlt => ?_)
    · exact K cH (fun b hb => st_0 (hI _ (by omega)))
    · refine ⟨vp_in_nI (by omega) (by omega), ?_⟩
      intro s' es
      rw [nI_clamp (by omega)] at es
      intro y ey
      have e2 := ey.trans (nI_1 i)
      subst e2 es
      refine ih (i + 1) _ (by omega) (by omega) (fun j hj => ?_)
      by_cases q : j = i
      · rw [q, pk_uLs]
      · rw [pk_uLn q]; exact hI j (by omega)
variable {c : ga_C} {vA cH : Nat → Int64}
theorem gl_load {post : SX → Prop} {S B : Nat} (h : ga_ok c S B) (hr : S + B ≤ 355) (hso : so_ok c so) (hv : sv_ok hS wO)
    (K : ∀ vA' cH', (∀ b, b < 160 → so b ≠ -1 → vA' (so b).toNatClampNeg = lN (sv_b hS wO b).toNat) → (∀ n, n < 360 → (∀ b, b < 160 → so b ≠ nI n) → vA' n = vA n) → (∀ n, n < 360 → st_b cH' n = false → vA' n = vA n) → post (sN, sC, sW, pP, pD, pE, c.1, tc, lV, bU, pL, wH, sE, kd, ox, oy, oz, wd, fo, su, rd, dp, nx, en, hS, wO, nO, nW, c.2.1, c.2.2.1, c.2.2.2.1, c.2.2.2.2, eo, so, ne, io, td, tf, tb, vA', cH', mK, cA, sK)) : wpX_loadSources post (sN, sC, sW, pP, pD, pE, c.1, tc, lV, bU, pL, wH, sE, kd, ox, oy, oz, wd, fo, su, rd, dp, nx, en, hS, wO, nO, nW, c.2.1, c.2.2.1, c.2.2.2.1, c.2.2.2.2, eo, so, ne, io, td, tf, tb, vA, cH, mK, cA, sK) := by
  unfold wpX_loadSources
  refine ⟨7, gl_2 ?_ 7 0 cH (by omega) (by omega) (fun j hj => absurd hj (by omega))⟩
  intro cH1 h1
  exact ⟨161, gl_23 (vA0 := vA) h hr hso hv K 161 0 vA cH1 (by omega) (by omega) (fun b hb => absurd hb (by omega)) (fun _ _ _ => rfl) (fun _ _ _ => rfl)⟩
theorem gl_bit {post : Int32 → Prop} {w : Nat → Bool} {e : Int32} {m : Nat} (he : e = nI m) (hm : m < 720) (hv : vA (m / 2) = lN (w (m / 2)).toNat) (k : post (nI (nb_lit w e).toNat)) : wpX_bitAt post (sN, sC, sW, pP, pD, pE, c.1, tc, lV, bU, pL, wH, sE, kd, ox, oy, oz, wd, fo, su, rd, dp, nx, en, hS, wO, nO, nW, c.2.1, c.2.2.1, c.2.2.2.1, c.2.2.2.2, eo, so, ne, io, td, tf, tb, vA, cH, mK, cA, sK) e := by
  have e1 : nI m >>> ((1 : Int32) &&& 31) = nI (m / 2) := pk_shrN (by omega) _ 1 (by decide)
  have e2 : nI m &&& 1 = nI (m % 2) := pk_andN (by omega) (m := 1) 1 (by decide)
  subst he
  unfold wpX_bitAt
  show vp_in (nI m >>> ((1 : Int32) &&& 31)) 360 ∧ post (((vA (nI m >>> ((1 : Int32) &&& 31)).toNatClampNeg &&& 1).toInt32) ^^^ (nI m &&& 1))
  rw [e1, e2, nI_clamp (by omega), hv, lb_i, lb_x _ (Nat.mod_two_eq_zero_or_one m)]
  rw [nb_litN w (by omega)] at k
  exact ⟨vp_in_nI (by omega) (by omega), k⟩
end
section
variable {sN sC sW pP pD pE tc lV bU pL wH sE : Int32} {kd ox oy oz wd fo su rd dp nx en hS wO nO nW eo so ne io td tf tb : Nat → Int32} {cH mK cA sK : Nat → Int64}
theorem gl_g2 {post : SX → Prop} {c : ga_C} {S B : Nat} {w : Nat → Bool} (h : ga_ok c S B) (hr : S + B ≤ 355) (hw : ga_con c w) (K : ∀ vA', (∀ n, n < ga_M c → vA' n = lN (w n).toNat) → post (sN, sC, sW, pP, pD, pE, c.1, tc, lV, bU, pL, wH, sE, kd, ox, oy, oz, wd, fo, su, rd, dp, nx, en, hS, wO, nO, nW, c.2.1, c.2.2.1, c.2.2.2.1, c.2.2.2.2, eo, so, ne, io, td, tf, tb, vA', cH, mK, cA, sK)) :
    ∀ (d i : Nat) (vA : Nat → Int64), ga_M c < d + i → i ≤ ga_M c → (∀ n, n < i → vA n = lN (w n).toNat) → (∀ n, n < ga_M c → c.2.1 n = -1 → vA n = lN (w n).toNat) → wX_workGates_2 post sN sC sW pP pD pE c.1 tc lV bU pL wH sE d (nI i) kd ox oy oz wd fo su rd dp nx en hS wO nO nW c.2.1 c.2.2.1 c.2.2.2.1 c.2.2.2.2 eo so ne io td tf tb vA cH mK cA sK := by
  have hM := h.2.2.1
  intro d
  induction d with
  | zero => intro i vA h1 h2; omega
  | succ d ih =>
    intro i vA h1 h2 hI hs
    unfold wX_workGates_2
    refine pk_le (ga_M c) i (fun hle => ?_) (fun hlt => ?_) h.1
    · exact K vA (fun n hn => hI n (by omega))
    · have hin : vp_in (nI i) 360 := vp_in_nI (by omega) (by omega)
      refine ⟨hin, ?_⟩
      rw [nI_clamp (by omega)]
      rcases h.2.2.2.2.2.1 i hlt with z | ⟨a, b, z1, z2, z3, z4⟩
      · refine br_f (by rw [z]; decide) ?_
        intro y ey
        have e2 := ey.trans (nI_1 i)
        subst e2
        refine ih (i + 1) vA (by omega) (by omega) (fun n hn => ?_) hs
        by_cases q : n = i
        · rw [q]; exact hs i hlt z
        · exact hI n (by omega)
      · have zn : c.2.1 i ≠ -1 := by rw [z1]; exact nr_ne (by omega)
        refine br_t (by rw [z1]; exact nI_pos' (by omega)) ⟨hin, ?_⟩
        refine gl_bit z1 (by omega) (hI _ (by omega)) ?_
        refine ⟨hin, ?_⟩
        refine gl_bit z2 (by omega) (hI _ (by omega)) ?_
        refine ⟨hin, ?_⟩
        intro vA' ev
        rw [lb_a, ← hw.2 i hlt zn] at ev
        intro y ey
        have e2 := ey.trans (nI_1 i)
        subst e2 ev
        refine ih (i + 1) _ (by omega) (by omega) (fun n hn => ?_) (fun n hn hg => ?_)
        · by_cases q : n = i
          · rw [q, pk_uLs]
          · rw [pk_uLn q]; exact hI n (by omega)
        · by_cases q : n = i
          · rw [q] at hg; exact absurd hg zn
          · rw [pk_uLn q]; exact hs n hn hg
variable {c : ga_C} {vA : Nat → Int64}
theorem gl_gates {post : SX → Prop} {S B : Nat} {w : Nat → Bool} (h : ga_ok c S B) (hr : S + B ≤ 355) (hw : ga_con c w) (hs : ∀ n, n < ga_M c → c.2.1 n = -1 → vA n = lN (w n).toNat) (K : ∀ vA', (∀ n, n < ga_M c → vA' n = lN (w n).toNat) → post (sN, sC, sW, pP, pD, pE, c.1, tc, lV, bU, pL, wH, sE, kd, ox, oy, oz, wd, fo, su, rd, dp, nx, en, hS, wO, nO, nW, c.2.1, c.2.2.1, c.2.2.2.1, c.2.2.2.2, eo, so, ne, io, td, tf, tb, vA', cH, mK, cA, sK)) : wpX_workGates post (sN, sC, sW, pP, pD, pE, c.1, tc, lV, bU, pL, wH, sE, kd, ox, oy, oz, wd, fo, su, rd, dp, nx, en, hS, wO, nO, nW, c.2.1, c.2.2.1, c.2.2.2.1, c.2.2.2.2, eo, so, ne, io, td, tf, tb, vA, cH, mK, cA, sK) := by
  unfold wpX_workGates
  refine ⟨ga_M c + 1, gl_g2 h hr hw K (ga_M c + 1) 1 vA (by omega) h.2.1 (fun n hn => ?_) hs⟩
  have e : n = 0 := by omega
  rw [e]
  exact hs 0 h.2.1 h.2.2.2.2.1
end
section
variable {sN sC sW pP pD pE tc lV bU pL wH sE : Int32} {kd ox oy oz wd fo su rd dp nx en hS wO nO nW eo so ne io td tf tb : Nat → Int32} {mK cA sK : Nat → Int64}
variable {c : ga_C} {vA cH : Nat → Int64}
theorem gl_hc2 {post : Int32 → Prop} {n : Nat} (hn : n < 360) (hv : iv_n io n) (k0 : (∀ p, p < 360 → in_s io n p → st_b cH p = false) → post 0) (k1 : post 1) :
    ∀ d i, 4 < d + i → i ≤ 4 → (∀ j p, j < i → p < 360 → io (4 * n + j) = nI p → st_b cH p = false) → wX_hasChangedInput_2 post (nI n) sN sC sW pP pD pE c.1 tc lV bU pL wH sE kd ox oy oz wd fo su rd dp nx en hS wO nO nW c.2.1 c.2.2.1 c.2.2.2.1 c.2.2.2.2 eo so ne io td tf tb vA cH mK cA sK d (nI i) := by
  intro d
  induction d with
  | zero => intro i h1 h2; omega
  | succ d ih =>
    intro i h1 h2 hI
    unfold wX_hasChangedInput_2
    refine pk_le 4 i (fun hle => ?_) (fun hlt => ?_)
    · refine k0 ?_
      rintro p hp ⟨j, j1, j2⟩
      exact hI j p (by omega) hp j2
    · have hin : vp_in ((4 * nI n) + nI i) 1440 := by rw [gi_ix]; exact vp_in_nI (by omega) (by omega)
      have hc : ((4 * nI n) + nI i).toNatClampNeg = 4 * n + i := by rw [gi_ix]; exact nI_clamp (by omega)
      refine ⟨hin, ?_⟩
      intro x ex
      rw [hc] at ex
      rcases hv i hlt with z | ⟨p, z1, z2⟩
      · rw [z] at ex
        subst ex
        refine br_t (by decide) ?_
        intro y ey
        have e2 := ey.trans (nI_1 i)
        subst e2
        refine ih (i + 1) (by omega) (by omega) (fun j q j1 j2 j3 => ?_)
        by_cases e : j = i
        · rw [e, z] at j3
          exact absurd j3.symm (nr_ne (by omega))
        · exact hI j q (by omega) j2 j3
      · rw [z1] at ex
        subst ex
        refine br_f (nI_pos (by omega)) ⟨by rw [st_sh (by omega)]; exact vp_in_nI (by omega) (by omega), ?_⟩
        cases e : st_b cH p
        · refine br_t ((st_tst (by omega)).mpr e) ?_
          intro y ey
          have e2 := ey.trans (nI_1 i)
          subst e2
          refine ih (i + 1) (by omega) (by omega) (fun j q j1 j2 j3 => ?_)
          by_cases e' : j = i
          · rw [e', z1, nI_eq (by omega) (by omega)] at j3
            rw [← j3]; exact e
          · exact hI j q (by omega) j2 j3
        · exact br_f (fun y => by rw [(st_tst (by omega)).mp y] at e; exact Bool.noConfusion e) k1
theorem gl_hc {post : Int32 → Prop} {n : Nat} (hn : n < 360) (hv : iv_n io n) (k0 : (∀ p, p < 360 → in_s io n p → st_b cH p = false) → post 0) (k1 : post 1) : wpX_hasChangedInput post (sN, sC, sW, pP, pD, pE, c.1, tc, lV, bU, pL, wH, sE, kd, ox, oy, oz, wd, fo, su, rd, dp, nx, en, hS, wO, nO, nW, c.2.1, c.2.2.1, c.2.2.2.1, c.2.2.2.2, eo, so, ne, io, td, tf, tb, vA, cH, mK, cA, sK) (nI n) := by
  unfold wpX_hasChangedInput
  exact ⟨5, gl_hc2 hn hv k0 k1 5 0 (by omega) (by omega) (fun j p hj => by omega)⟩
/-- one table -/
theorem gl_59 {post : SX → Prop} {J : Int32 → (Nat → Int32) → (Nat → Int32) → (Nat → Int32) → (Nat → Int32) → (Nat → Int32) → (Nat → Int32) → (Nat → Int32) → (Nat → Int32) → (Nat → Int32) → (Nat → Int32) → (Nat → Int32) → (Nat → Int32) → (Nat → Int32) → (Nat → Int32) → (Nat → Int32) → (Nat → Int32) → (Nat → Int32) → (Nat → Int32) → (Nat → Int32) → (Nat → Int32) → (Nat → Int32) → (Nat → Int32) → (Nat → Int32) → (Nat → Int32) → (Nat → Int32) → (Nat → Int32) → (Nat → Int64) → (Nat → Int64) → (Nat → Int64) → (Nat → Int64) → (Nat → Int64) → Prop} {x1 : Int32} {n t : Nat} {w : Nat → Bool} (hn : n < 360) (hv : iv_n io n) (hp : ∀ p, p < 360 → in_s io n p → vA p = lN (w p).toNat) (ht : bt (tf n) (ix_w io n w) = w n)
    (k0 : vA n = lN (w n).toNat → J (nI (t + 1)) kd ox oy oz wd fo su rd dp nx en hS wO nO nW c.2.1 c.2.2.1 c.2.2.2.1 c.2.2.2.2 eo so ne io td tf tb vA cH mK cA sK) (k1 : ∀ cH', (∀ j, st_b cH' j = (decide (j = n) || st_b cH j)) → J (nI (t + 1)) kd ox oy oz wd fo su rd dp nx en hS wO nO nW c.2.1 c.2.2.1 c.2.2.2.1 c.2.2.2.2 eo so ne io td tf tb (vp_updL vA n (lN (w n).toNat)) cH' mK cA sK) :
    ∀ d i, 4 < d + i → i ≤ 4 → wX_workTables_59 post J x1 (nI t) (nI n) sN sC sW pP pD pE c.1 tc lV bU pL wH sE kd ox oy oz wd fo su rd dp nx en hS wO nO nW c.2.1 c.2.2.1 c.2.2.2.1 c.2.2.2.2 eo so ne io td tf tb vA cH mK cA sK d (nI (nb_n (fun i => !decide (io (4 * n + i) = -1) && w (io (4 * n + i)).toNatClampNeg) i)) (nI i) := by
  have hnin : vp_in (nI n) 360 := vp_in_nI hn (by omega)
  have hnc : (nI n).toNatClampNeg = n := nI_clamp (by omega)
  intro d
  induction d with
  | zero => intro i h1 h2; omega
  | succ d ih =>
    intro i h1 h2
    unfold wX_workTables_59
    refine pk_le 4 i (fun hle => ?_) (fun hlt => ?_)
    · have e : i = 4 := by omega
      subst e
      refine ⟨hnin, ?_⟩
      intro x ex
      have ei : nb_n (fun i => !decide (io (4 * n + i) = -1) && w (io (4 * n + i)).toNatClampNeg) 4 = ix_w io n w := rfl
      have i16 := ix_lt io n w
      rw [ei, hnc, bt_sh _ (by omega), ht] at ex
      subst ex
      refine ⟨hnin, ?_⟩
      rw [hnc]
      refine br_c (fun e => ?_) (fun e => ⟨hnin, ?_⟩)
      · intro y ey
        have e2 := ey.trans (nI_1 t)
        subst e2
        exact k0 e
      · intro vA' ev
        have e6 : vp_in (nI n >>> ((6 : Int32) &&& 31)) 6 := by rw [st_sh (by omega)]; exact vp_in_nI (by omega) (by omega)
        refine ⟨e6, e6, ?_⟩
        intro cH' ec
        rw [st_sh (by omega), st_an (by omega), nI_clamp (by omega)] at ec
        intro y ey
        have e2 := ey.trans (nI_1 t)
        subst e2 ec ev
        exact k1 _ (fun j => st_set j)
    · have hin : vp_in ((4 * nI n) + nI i) 1440 := by rw [gi_ix]; exact vp_in_nI (by omega) (by omega)
      have hc : ((4 * nI n) + nI i).toNatClampNeg = 4 * n + i := by rw [gi_ix]; exact nI_clamp (by omega)
      have es := nb_s (fun i => !decide (io (4 * n + i) = -1) && w (io (4 * n + i)).toNatClampNeg) i
      refine ⟨hin, ?_⟩
      intro x ex
      rw [hc] at ex
      rcases hv i hlt with z | ⟨p, z1, z2⟩
      · rw [z] at ex
        subst ex
        refine br_t (by decide) ?_
        intro y ey
        have e2 := ey.trans (nI_1 i)
        subst e2
        have k := ih (i + 1) (by omega) (by omega)
        rw [es] at k
        simp only [z, decide_true, Bool.not_true, Bool.false_and, Bool.toNat_false, Nat.zero_mul, Nat.add_zero] at k
        exact k
      · rw [z1] at ex
        subst ex
        refine br_f (nI_pos (by omega)) ⟨vp_in_nI (by omega) (by omega), ?_⟩
        intro x4 e4
        have pc : (nI p).toNatClampNeg = p := nI_clamp (by omega)
        have hb : (!decide (io (4 * n + i) = -1) && w (io (4 * n + i)).toNatClampNeg) = w p := by
          rw [z1, pc]
          have : nI p ≠ -1 := nr_ne (by omega)
          simp [this]
        rw [pc, hp p (by omega) ⟨i, hlt, z1⟩, lb_i, ix_acc (nb_lt _ i) (by omega)] at e4
        intro y ey
        have e2 := ey.trans (nI_1 i)
        subst e2 e4
        have k := ih (i + 1) (by omega) (by omega)
        rw [es, hb] at k
        exact k
end
end
section
/-! workTables, settle -/
theorem in_lt {io : Nat → Int32} {n p : Nat} (hn : n < 360) (hp : p < 360) (hv : iv_n io n) (h : in_s io n p) : p < n := by
  obtain ⟨j, j1, j2⟩ := h
  rcases hv j j1 with z | ⟨m, z1, z2⟩
  · rw [z] at j2; exact absurd j2.symm (nr_ne (by omega))
  · rw [z1, nI_eq (by omega) (by omega)] at j2; omega
theorem ix_cg {io : Nat → Int32} {n : Nat} {w w' : Nat → Bool} (hv : iv_n io n) (hn : n < 360) (h : ∀ p, p < 360 → in_s io n p → w p = w' p) : ix_w io n w = ix_w io n w' := by
  refine nb_cg 4 (fun i hi => ?_)
  rcases hv i hi with z | ⟨p, z1, z2⟩
  · rw [z]; simp
  · rw [z1, nI_clamp (by omega), h p (by omega) ⟨i, hi, z1⟩]
section
variable {sN sC sW pP pD pE lV bU pL wH sE : Int32} {kd ox oy oz wd fo su rd dp nx en hS wO nO nW eo so ne io td tf tb : Nat → Int32} {mK cA sK : Nat → Int64}
theorem gl_t23 {post : SX → Prop} {c : ga_C} {S B T N : Nat} {w w0 : Nat → Bool} {x1 : Int32} (h : ga_ok c S B) (hr : S + B ≤ 355) (tl : tl_ok c io tf tb T N kd wd eo ne) (hw : ga_con c w) (hw0 : ga_con c w0)
    (K : ∀ vA' cH', (∀ n, n < ga_M c → kn_n c tb T n → vA' n = lN (w n).toNat) → post (sN, sC, sW, pP, pD, pE, c.1, nI T, lV, bU, pL, wH, sE, kd, ox, oy, oz, wd, fo, su, rd, dp, nx, en, hS, wO, nO, nW, c.2.1, c.2.2.1, c.2.2.2.1, c.2.2.2.2, eo, so, ne, io, td, tf, tb, vA', cH', mK, cA, sK)) :
    ∀ (d t : Nat) (vA cH : Nat → Int64), T < d + t → t ≤ T → (∀ n, n < ga_M c → c.2.1 n = -1 → vA n = lN (w n).toNat) → (∀ t' n, t' < t → tb t' = nI n → n < ga_M c → vA n = lN (w n).toNat) →
      (x1 = 0 → ∀ t' n, t ≤ t' → t' < T → tb t' = nI n → n < ga_M c → vA n = lN (w0 n).toNat) → (x1 = 0 → ∀ n, n < ga_M c → (c.2.1 n = -1 ∨ ∃ t', t' < t ∧ tb t' = nI n) → st_b cH n = false → w n = w0 n) → wX_workTables_23 post x1 sN sC sW pP pD pE c.1 (nI T) lV bU pL wH sE d (nI t) kd ox oy oz wd fo su rd dp nx en hS wO nO nW c.2.1 c.2.2.1 c.2.2.2.1 c.2.2.2.2 eo so ne io td tf tb vA cH mK cA sK := by
  have hM := h.2.2.1
  have hT := tl.1
  intro d
  induction d with
  | zero => intro t vA cH h1 h2; omega
  | succ d ih =>
    intro t vA cH h1 h2 i1 i2 i3 i4
    unfold wX_workTables_23
    refine pk_le T t (fun hle => ?_) (fun hlt => ?_)
    · refine K vA cH (fun n hn kn => ?_)
      rcases kn.2 with z | ⟨t', t1, t2⟩
      · exact i1 n hn z
      · exact i2 t' n (by omega) t2 hn
    · obtain ⟨n, n1, n2, n3, n4, n5, n6⟩ := tl.2.1 t hlt
      refine ⟨vp_in_nI (by omega) (by omega), ?_⟩
      intro x ex
      rw [nI_clamp (by omega), n1] at ex
      subst ex
      have inp : ∀ p, p < 360 → in_s io n p → c.2.1 p = -1 ∨ ∃ t', t' < t ∧ tb t' = nI p := by
        intro p hp e
        have lt := in_lt (by omega) hp n5 e
        rcases (n6 p hp e).2 with z | ⟨t', t1, t2⟩
        · exact Or.inl z
        · refine Or.inr ⟨t', ?_, t2⟩
          rcases Nat.lt_trichotomy t' t with y | y | y
          · exact y
          · rw [y, n1, nI_eq (by omega) (by omega)] at t2; omega
          · have := tl.2.2.1 t t' n p y t1 (by omega) hp n1 t2; omega
      have pv : ∀ p, p < 360 → in_s io n p → vA p = lN (w p).toNat := by
        intro p hp e
        rcases inp p hp e with z | ⟨t', t1, t2⟩
        · exact i1 p (n6 p hp e).1 z
        · exact i2 t' p t1 t2 (n6 p hp e).1
      have stay : vA n = lN (w n).toNat → (x1 = 0 → w n = w0 n) → wX_workTables_23 post x1 sN sC sW pP pD pE c.1 (nI T) lV bU pL wH sE d (nI (t + 1)) kd ox oy oz wd fo su rd dp nx en hS wO nO nW c.2.1 c.2.2.1 c.2.2.2.1 c.2.2.2.2 eo so ne io td tf tb vA cH mK cA sK := by
        intro e e'
        refine ih (t + 1) vA cH (by omega) (by omega) i1 (fun t' m t1 t2 t3 => ?_) (fun z t' m t1 => i3 z t' m (by omega)) (fun z m m1 m2 m3 => ?_)
        · by_cases q : t' = t
          · rw [q, n1, nI_eq (by omega) (by omega)] at t2
            rw [← t2]; exact e
          · exact i2 t' m (by omega) t2 t3
        · by_cases q : m = n
          · rw [q]; exact e' z
          · refine i4 z m m1 ?_ m3
            rcases m2 with y | ⟨t', t1, t2⟩
            · exact Or.inl y
            · by_cases q2 : t' = t
              · rw [q2, n1, nI_eq (by omega) (by omega)] at t2
                exact absurd t2.symm q
              · exact Or.inr ⟨t', by omega, t2⟩
      have go : ∃ n59, wX_workTables_59 post (wX_workTables_23 post x1 sN sC sW pP pD pE c.1 (nI T) lV bU pL wH sE d) x1 (nI t) (nI n) sN sC sW pP pD pE c.1 (nI T) lV bU pL wH sE kd ox oy oz wd fo su rd dp nx en hS wO nO nW c.2.1 c.2.2.1 c.2.2.2.1 c.2.2.2.2 eo so ne io td tf tb vA cH mK cA sK n59 0 0 := by
        refine ⟨5, gl_59 (w := w) (by omega) n5 pv (n4 w hw) (fun e => stay e (fun z => ?_)) ?_ 5 0 (by omega) (by omega)⟩
        · have e3 := i3 z t n (Nat.le_refl _) hlt n1 n2
          rw [e] at e3
          exact lb_eq e3
        · intro cH' hc
          refine ih (t + 1) _ cH' (by omega) (by omega) (fun m m1 m2 => ?_) (fun t' m t1 t2 t3 => ?_) (fun z t' m t1 t2 t3 t4 => ?_) (fun z m m1 m2 m3 => ?_)
          · have q : m ≠ n := fun q => by rw [q] at m2; exact n3 m2
            rw [pk_uLn q]; exact i1 m m1 m2
          · by_cases q : m = n
            · rw [q, pk_uLs]
            · rw [pk_uLn q]
              by_cases q2 : t' = t
              · rw [q2, n1, nI_eq (by omega) (by omega)] at t2
                exact absurd t2.symm q
              · exact i2 t' m (by omega) t2 t3
          · have lt := tl.2.2.1 t t' n m (by omega) t2 (by omega) (by omega) n1 t3
            rw [pk_uLn (by omega)]
            exact i3 z t' m (by omega) t2 t3 t4
          · rw [hc] at m3
            by_cases q : m = n
            · simp [q] at m3
            · refine i4 z m m1 ?_ (by simpa [q] using m3)
              rcases m2 with y | ⟨t', t1, t2⟩
              · exact Or.inl y
              · by_cases q2 : t' = t
                · rw [q2, n1, nI_eq (by omega) (by omega)] at t2
                  exact absurd t2.symm q
                · exact Or.inr ⟨t', by omega, t2⟩
      refine br_c (fun z => ?_) (fun _ => go)
      refine gl_hc (by omega) n5 (fun hno => br_t rfl ?_) (br_f (by decide) go)
      intro y ey
      have e2 := ey.trans (nI_1 t)
      subst e2
      have ww : w n = w0 n := by
        rw [← n4 w hw, ← n4 w0 hw0, ix_cg n5 (by omega) (fun p hp e => i4 z p (n6 p hp e).1 (inp p hp e) (hno p hp e))]
      exact stay (by rw [i3 z t n (Nat.le_refl _) hlt n1 n2, ww]) (fun _ => ww)
end
/-- a valuation with given state bits that keeps other nodes -/
theorem mg_val2 {N : Nat} {kd ox oy oz wd fo nx en : Nat → Int32} {pP pD pE : Int32} {sK : Nat → Int64} {fv : Nat → Bool} {c : ga_C} {eo so ne : Nat → Int32} (m : mg_ok N kd ox oy oz wd fo nx en pP pD pE sK fv c eo so ne) (σ g : Nat → Bool) (hσ : ∀ b, b < 160 → st_b sK b = true → σ b = fv b) :
    ∃ w, ga_con c w ∧ (∀ b, b < 160 → lv_b kd wd N b → sg_w w so fv b = σ b) ∧ ∀ n, 0 < n → n < ga_M c → c.2.1 n = -1 → (∀ b, b < 160 → so b ≠ nI n) → w n = g n := by
  obtain ⟨m1, ⟨m2, m3, m4, m5⟩, -⟩ := m
  have hM := m1.2.2.1
  obtain ⟨w, hw, hf⟩ := ga_eval m1 (by omega) (fun n => @decide ((∃ b, b < 160 ∧ so b = nI n ∧ σ b = true) ∨ ((∀ b, b < 160 → so b ≠ nI n) ∧ g n = true)) (Classical.propDecidable _))
  refine ⟨w, hw, fun b hb hl => ?_, fun n n1 n2 n3 n4 => ?_⟩
  · have q := (m3 b hb).1 hl
    by_cases z : so b = -1
    · rw [sg_0 z, hσ b hb (q.mp z)]
    · rcases m2.1 b hb with y | ⟨n, y1, y2, y3, y4⟩
      · exact absurd y z
      · rw [sg_n y1 (by omega), hf n y2 y3 y4]
        by_cases e : σ b = true
        · rw [e]
          exact @decide_eq_true _ (Classical.propDecidable _) (Or.inl ⟨b, hb, y1, e⟩)
        · have e' : σ b = false := by simpa using e
          rw [e']
          refine @decide_eq_false _ (Classical.propDecidable _) ?_
          rintro (⟨b', hb', s1, s2⟩ | ⟨s1, s2⟩)
          · have : b = b' := m2.2 b b' hb hb' z (by rw [y1, s1])
            rw [← this] at s2
            exact e s2
          · exact s1 b hb y1
  · rw [hf n n1 n2 n3]
    by_cases e : g n = true
    · exact (@decide_eq_true _ (Classical.propDecidable _) (Or.inr ⟨n4, e⟩)).trans e.symm
    · have e' : g n = false := by simpa using e
      refine (@decide_eq_false _ (Classical.propDecidable _) ?_).trans e'.symm
      rintro (⟨b', hb', s1, s2⟩ | ⟨s1, s2⟩)
      · exact n4 b' hb' s1
      · exact e s2
/-- what holds while the gates stand -/
def bi_ok (N : Nat) (kd ox oy oz wd fo nx en hS wO nO nW : Nat → Int32) (pP pD pE tc lV sE : Int32) (c : ga_C) (eo so ne io tf tb : Nat → Int32) (vA sK : Nat → Int64) : Prop :=
  mg_ok N kd ox oy oz wd fo nx en pP pD pE sK (fv_b oy) c eo so ne ∧
  (∀ b, b < 160 → st_b sK b = true → s2_b N kd wd b ∧ sv_b hS wO b = fv_b oy b ∧ sv_b nO nW b = fv_b oy b) ∧
  st_cl N kd ox oy oz wd fo nx en pP pD pE sK ∧
  (lV ≠ 0 → tc = nI tc.toNatClampNeg ∧ tl_ok c io tf tb tc.toNatClampNeg N kd wd eo ne) ∧
  ∃ w, ga_con c w ∧ (∀ n, n < ga_M c → (lV = 0 ∨ kn_n c tb tc.toNatClampNeg n) → vA n = lN (w n).toNat) ∧ (sE ≠ 0 → ∀ b, b < 160 → lv_b kd wd N b → sg_w w so (fv_b oy) b = sv_b hS wO b)
section
variable {sN sC sW pP pD pE tc lV bU pL wH sE : Int32} {kd ox oy oz wd fo su rd dp nx en hS wO nO nW eo so ne io td tf tb : Nat → Int32} {vA cH mK cA sK : Nat → Int64}
variable {c : ga_C}
theorem gl_92 {post : SX → Prop} {N : Nat} {w0 : Nat → Bool} (hv : sv_ok hS wO)
    (m : mg_ok N kd ox oy oz wd fo nx en pP pD pE sK (fv_b oy) c eo so ne) (hst : ∀ b, b < 160 → st_b sK b = true → s2_b N kd wd b ∧ sv_b hS wO b = fv_b oy b ∧ sv_b nO nW b = fv_b oy b) (hcl : st_cl N kd ox oy oz wd fo nx en pP pD pE sK)
    (htl : lV ≠ 0 → tc = nI tc.toNatClampNeg ∧ tl_ok c io tf tb tc.toNatClampNeg N kd wd eo ne) (hw0 : ga_con c w0) (hn : ∀ n, n < ga_M c → c.2.1 n = -1 → vA n = lN (w0 n).toNat)
    (hk : wH = 0 → ∀ n, n < ga_M c → (lV = 0 ∨ kn_n c tb tc.toNatClampNeg n) → vA n = lN (w0 n).toNat) (hs : sE ≠ 0 → wH = 0 ∧ sE = 1 ∧ ∀ b, b < 160 → lv_b kd wd N b → sg_w w0 so (fv_b oy) b = sv_b hS wO b)
    (K : ∀ vA' cH', bi_ok N kd ox oy oz wd fo nx en hS wO nO nW pP pD pE tc lV 1 c eo so ne io tf tb vA' sK → post (sN, sC, sW, pP, pD, pE, c.1, tc, lV, bU, pL, 0, 1, kd, ox, oy, oz, wd, fo, su, rd, dp, nx, en, hS, wO, nO, nW, c.2.1, c.2.2.1, c.2.2.2.1, c.2.2.2.2, eo, so, ne, io, td, tf, tb, vA', cH', mK, cA, sK)) : wX_settle_92 post sN sC sW pP pD pE c.1 tc lV bU pL wH sE kd ox oy oz wd fo su rd dp nx en hS wO nO nW c.2.1 c.2.2.1 c.2.2.2.1 c.2.2.2.2 eo so ne io td tf tb vA cH mK cA sK := by
  have hM := m.1.2.2.1
  have m1 := m.1
  have hso := m.2.1.1
  unfold wX_settle_92
  refine br_c (fun z => ?_) (fun z => ?_)
  · obtain ⟨w, hw, wl, wg⟩ := mg_val2 m (sv_b hS wO) w0 (fun b hb s => (hst b hb s).2.1)
    refine gl_load m1 (by omega) hso hv ?_
    intro vA1 cH1 f1 f2 f3
    have src : ∀ n b, b < 160 → so b = nI n → n < 360 → c.2.1 n = -1 ∧ w n = sv_b hS wO b ∧ vA1 n = lN (w n).toNat ∧ 0 < n := by
      intro n b hb e hn'
      have bn : so b ≠ -1 := by rw [e]; exact nr_ne (by omega)
      have lv : lv_b kd wd N b := by
        by_cases q : lv_b kd wd N b
        · exact q
        · exact absurd ((m.2.1.2.1 b hb).2 q) bn
      rcases hso.1 b hb with y | ⟨k, y1, y2, y3, y4⟩
      · exact absurd y bn
      · rw [e, nI_eq (by omega) (by omega)] at y1
        subst y1
        have wn : w n = sv_b hS wO b := by rw [← wl b hb lv, sg_n e (by omega)]
        have v1 := f1 b hb bn
        rw [e, nI_clamp (by omega), ← wn] at v1
        exact ⟨y4, wn, v1, y2⟩
    have non : ∀ n, n < ga_M c → c.2.1 n = -1 → vA1 n = lN (w n).toNat := by
      intro n hn' g
      by_cases q : ∃ b, b < 160 ∧ so b = nI n
      · obtain ⟨b, b1, b2⟩ := q
        exact (src n b b1 b2 (by omega)).2.2.1
      · have q' : ∀ b, b < 160 → so b ≠ nI n := fun b hb e => q ⟨b, hb, e⟩
        rw [f2 n (by omega) q', hn n hn' g]
        by_cases e : n = 0
        · rw [e, hw0.1, hw.1]
        · rw [wg n (by omega) hn' g q']
    have gat : ∀ n, n < ga_M c → c.2.1 n ≠ -1 → vA1 n = vA n := by
      intro n hn' g
      refine f2 n (by omega) (fun b hb e => g (src n b hb e (by omega)).1)
    have fin : ∀ vA' cH', (∀ n, n < ga_M c → (lV = 0 ∨ kn_n c tb tc.toNatClampNeg n) → vA' n = lN (w n).toNat) → post (sN, sC, sW, pP, pD, pE, c.1, tc, lV, bU, pL, 0, 1, kd, ox, oy, oz, wd, fo, su, rd, dp, nx, en, hS, wO, nO, nW, c.2.1, c.2.2.1, c.2.2.2.1, c.2.2.2.2, eo, so, ne, io, td, tf, tb, vA', cH', mK, cA, sK) := fun vA' cH' f => K vA' cH' ⟨m, hst, hcl, htl, w, hw, f, fun _ => wl⟩
    refine br_c (fun l0 => ?_) (fun l0 => ?_)
    · refine gl_gates m1 (by omega) hw non ?_
      intro vA2 g2
      exact fin vA2 cH1 (fun n hn' _ => g2 n hn')
    · obtain ⟨eT, tl⟩ := htl l0
      have KK : ∀ vA' cH', (∀ n, n < ga_M c → kn_n c tb tc.toNatClampNeg n → vA' n = lN (w n).toNat) → post (sN, sC, sW, pP, pD, pE, c.1, tc, lV, bU, pL, 0, 1, kd, ox, oy, oz, wd, fo, su, rd, dp, nx, en, hS, wO, nO, nW, c.2.1, c.2.2.1, c.2.2.2.1, c.2.2.2.2, eo, so, ne, io, td, tf, tb, vA', cH', mK, cA, sK) := fun vA' cH' f => fin vA' cH' (fun n hn' q => by
        rcases q with q | q
        · exact absurd q l0
        · exact f n hn' q)
      generalize hT : tc.toNatClampNeg = T at eT tl KK hk
      subst eT
      have go1 : ∀ P : SX → Prop, (∀ vA' cH', (∀ n, n < ga_M c → kn_n c tb T n → vA' n = lN (w n).toNat) → P (sN, sC, sW, pP, pD, pE, c.1, nI T, lV, bU, pL, wH, 1, kd, ox, oy, oz, wd, fo, su, rd, dp, nx, en, hS, wO, nO, nW, c.2.1, c.2.2.1, c.2.2.2.1, c.2.2.2.2, eo, so, ne, io, td, tf, tb, vA', cH', mK, cA, sK)) → ∀ x1 : Int32, (x1 = 0 → wH = 0) → ∃ n23, wX_workTables_23 P x1 sN sC sW pP pD pE c.1 (nI T) lV bU pL wH 1 n23 0 kd ox oy oz wd fo su rd dp nx en hS wO nO nW c.2.1 c.2.2.1 c.2.2.2.1 c.2.2.2.2 eo so ne io td tf tb vA1 cH1 mK cA sK := by
        intro P KP
        intro x1 hx
        refine ⟨T + 1, gl_t23 (N := N) m1 (by omega) tl hw hw0 KP (T + 1) 0 vA1 cH1 (by omega) (by omega) non (fun t' n ht => by omega) (fun e t' n t1 t2 t3 t4 => ?_) (fun e n n1 n2 n3 => ?_)⟩
        · obtain ⟨k, k1, k2, k3, -⟩ := tl.2.1 t' t2
          rw [k1, nI_eq (by omega) (by omega)] at t3
          subst t3
          rw [gat k k2 k3]
          exact hk (hx e) k k2 (Or.inr ⟨k2, Or.inr ⟨t', t2, k1⟩⟩)
        · rcases n2 with g | ⟨t', t1, -⟩
          · have e1 := non n n1 g
            rw [f3 n (by omega) n3, hn n n1 g] at e1
            exact (lb_eq e1).symm
          · omega
      unfold wpX_workTables
      refine br_c (fun z0 => br_c (fun _ => go1 _ KK 1 (fun e => absurd e (by decide))) (fun _ => go1 _ KK 0 (fun _ => z0))) (fun _ => go1 _ KK 1 (fun e => absurd e (by decide)))
  · obtain ⟨s1, s2, s3⟩ := hs z
    subst s1 s2
    exact K vA cH ⟨m, hst, hcl, htl, w0, hw0, hk rfl, fun _ => s3⟩
end
end
section
/-! settle -/
section
variable {sN sC sW pP pD pE tc lV bU pL wH sE : Int32} {kd ox oy oz wd fo su rd dp nx en hS wO nO nW eo so ne io td tf tb : Nat → Int32} {cH mK cA sK : Nat → Int64}
theorem gl_51 {post : SX → Prop} {c : ga_C} {N : Nat} (hv : sv_ok hS wO)
    (m : mg_ok N kd ox oy oz wd fo nx en pP pD pE sK (fv_b oy) c eo so ne) (hst : ∀ b, b < 160 → st_b sK b = true → s2_b N kd wd b ∧ sv_b hS wO b = fv_b oy b ∧ sv_b nO nW b = fv_b oy b) (hcl : st_cl N kd ox oy oz wd fo nx en pP pD pE sK)
    (htl : lV ≠ 0 → tc = nI tc.toNatClampNeg ∧ tl_ok c io tf tb tc.toNatClampNeg N kd wd eo ne)
    (K : ∀ vA' cH', bi_ok N kd ox oy oz wd fo nx en hS wO nO nW pP pD pE tc lV 1 c eo so ne io tf tb vA' sK → post (sN, sC, sW, pP, pD, pE, c.1, tc, lV, 1, 0, 0, 1, kd, ox, oy, oz, wd, fo, su, rd, dp, nx, en, hS, wO, nO, nW, c.2.1, c.2.2.1, c.2.2.2.1, c.2.2.2.2, eo, so, ne, io, td, tf, tb, vA', cH', mK, cA, sK)) :
    ∀ (d i : Nat) (vA : Nat → Int64), ga_M c < d + i → i ≤ ga_M c → (∀ n, n < i → vA n = 0) → wX_settle_51 post sN sC sW pP pD pE c.1 tc lV bU pL wH sE d (nI i) kd ox oy oz wd fo su rd dp nx en hS wO nO nW c.2.1 c.2.2.1 c.2.2.2.1 c.2.2.2.2 eo so ne io td tf tb vA cH mK cA sK := by
  have hM := m.1.2.2.1
  intro d
  induction d with
  | zero => intro i vA h1 h2; omega
  | succ d ih =>
    intro i vA h1 h2 hI
    unfold wX_settle_51
    refine pk_le (ga_M c) i (fun hle => ?_) (fun hlt => ?_) m.1.1
    · obtain ⟨w0, hw0, hf⟩ := ga_eval m.1 (by omega) (fun _ => false)
      refine gl_92 (w0 := w0) hv m hst hcl htl hw0 (fun n hn g => ?_) (fun e => absurd e (by decide)) (fun e => absurd rfl e) K
      rw [hI n (by omega)]
      by_cases e : n = 0
      · rw [e, hw0.1]; rfl
      · rw [hf n (by omega) hn g]; rfl
    · refine ⟨vp_in_nI (by omega) (by omega), ?_⟩
      intro v' ev
      rw [nI_clamp (by omega)] at ev
      intro y ey
      have e2 := ey.trans (nI_1 i)
      subst e2 ev
      refine ih (i + 1) _ (by omega) (by omega) (fun n hn => ?_)
      by_cases q : n = i
      · rw [q, pk_uLs]
      · rw [pk_uLn q]; exact hI n (by omega)
end
theorem mg_ne {N : Nat} {kd ox oy oz wd fo nx en : Nat → Int32} {pP pD pE : Int32} {sK : Nat → Int64} {fv : Nat → Bool} {c : ga_C} {eo so ne : Nat → Int32} (m : mg_ok N kd ox oy oz wd fo nx en pP pD pE sK fv c eo so ne) : ∀ b, b < 160 → s2_b N kd wd b → ga_en c (ne b) := by
  intro b hb z
  rcases z with z | ⟨z1, z2, z3⟩
  · have := m.2.2.2.1 ((b - 144) / 4) (b % 4) (by omega) (by omega)
    rw [show 144 + 4 * ((b - 144) / 4) + b % 4 = b from by omega] at this
    exact this
  · have := m.2.2.1 (b / 6) z1 z3 (b % 6) z2
    rw [show 6 * (b / 6) + b % 6 = b from by omega] at this
    exact this
section
variable {sN sC sW pP pD pE nc tc lV bU pL wH sE : Int32} {kd ox oy oz wd fo su rd dp nx en hS wO nO nW la lb nl fl eo so ne io td tf tb : Nat → Int32} {vA cH mK cA sK : Nat → Int64}
theorem gl_30 {post : SX → Prop} {N : Nat} (hN : N ≤ 24) (hsN : sN = nI N) (hd : ∀ t, t < N → df_s kd ox oy oz wd t) (hfo : fo_ok fo wd N) (hcn : cn_ok kd wd nx en N) (hpt : pt_ok wd pP pD pE N) (hv : sv_ok hS wO)
    (hh : hs_n kd wd N ≤ 60) (hb : gc_n kd ox wd N + nc_n kd wd N ≤ 220) (hca : ca_ok cA) (hl : lV = 0 ∨ lV = 1 ∨ lV = 2)
    (hst : ∀ b, b < 160 → st_b sK b = true → s2_b N kd wd b ∧ sv_b hS wO b = fv_b oy b ∧ sv_b nO nW b = fv_b oy b) (hcl : st_cl N kd ox oy oz wd fo nx en pP pD pE sK)
    (K : ∀ (c : ga_C) eo' so' ne' io' td' tf' tb' tc' vA' cH' mK', bi_ok N kd ox oy oz wd fo nx en hS wO nO nW pP pD pE tc' lV 1 c eo' so' ne' io' tf' tb' vA' sK → post (sN, sC, sW, pP, pD, pE, c.1, tc', lV, 1, 0, 0, 1, kd, ox, oy, oz, wd, fo, su, rd, dp, nx, en, hS, wO, nO, nW, c.2.1, c.2.2.1, c.2.2.2.1, c.2.2.2.2, eo', so', ne', io', td', tf', tb', vA', cH', mK', cA, sK)) : wX_settle_30 post sN sC sW pP pD pE nc tc lV bU pL wH sE kd ox oy oz wd fo su rd dp nx en hS wO nO nW la lb nl fl eo so ne io td tf tb vA cH mK cA sK := by
  unfold wX_settle_30
  refine gs_gates (fv := fv_b oy) hN hsN hd hfo hcn hpt hv (fun b hb z => (hst b hb z).2.1.symm) hh hb ?_
  intro c eo' so' ne' m
  by_cases q : lV = 0
  · refine br_t (by rw [q]; decide) ?_
    exact ⟨ga_M c + 1, gl_51 hv m hst hcl (fun e => absurd q e) (fun vA' cH' b => K c eo' so' ne' io td tf tb tc vA' cH' mK b) (ga_M c + 1) 0 vA (by omega) (by omega) (fun n hn => by omega)⟩
  · refine br_f (by rcases hl with z | z | z <;> rw [z]; exact absurd z q; decide; decide) ?_
    refine gi_choose m.1 (by omega) ?_
    intro io' td' hio
    refine gt_tables m.1 hN hsN hd m.2.1.2.2.1 (mg_ne m) hio hca ?_
    intro mK' vA1 tf' tb' T tl
    have hT := tl.1
    have eT : (nI T).toNatClampNeg = T := nI_clamp (by omega)
    exact ⟨ga_M c + 1, gl_51 hv m hst hcl (fun _ => by rw [eT]; exact ⟨rfl, tl⟩) (fun vA' cH' b => K c eo' so' ne' io' td' tf' tb' (nI T) vA' cH' mK' b) (ga_M c + 1) 0 vA1 (by omega) (by omega) (fun n hn => by omega)⟩
theorem gl_14 {post : SX → Prop} {N : Nat} (hN : N ≤ 24) (hsN : sN = nI N) (hd : ∀ t, t < N → df_s kd ox oy oz wd t) (hfo : fo_ok fo wd N) (hcn : cn_ok kd wd nx en N) (hpt : pt_ok wd pP pD pE N) (hv : sv_ok hS wO) (hnv : sv_ok nO nW)
    (hh : hs_n kd wd N ≤ 60) (hb : gc_n kd ox wd N + nc_n kd wd N ≤ 220) (hca : ca_ok cA) (hl : lV = 0 ∨ lV = 1 ∨ lV = 2)
    (K : ∀ (c : ga_C) eo' so' ne' io' td' tf' tb' tc' vA' cH' mK' sK', bi_ok N kd ox oy oz wd fo nx en hS wO nO nW pP pD pE tc' lV 1 c eo' so' ne' io' tf' tb' vA' sK' → post (sN, sC, sW, pP, pD, pE, c.1, tc', lV, 1, 0, 0, 1, kd, ox, oy, oz, wd, fo, su, rd, dp, nx, en, hS, wO, nO, nW, c.2.1, c.2.2.1, c.2.2.2.1, c.2.2.2.2, eo', so', ne', io', td', tf', tb', vA', cH', mK', cA, sK')) : wX_settle_14 post sN sC sW pP pD pE nc tc lV bU pL wH sE kd ox oy oz wd fo su rd dp nx en hS wO nO nW la lb nl fl eo so ne io td tf tb vA cH mK cA sK := by
  unfold wX_settle_14
  refine gk_clr ?_
  intro sK0 h0
  refine br_c (fun _ => ?_) (fun _ => ?_)
  · refine gk_find hN hsN hd hfo hcn hpt hv hnv hh hb ?_
    intro c1 eo1 so1 ne1 vA1 sK1 sK' z0 m1 x1 x2
    refine gl_30 hN hsN hd hfo hcn hpt hv hh hb hca hl x1 (cl_mk hN hd hcn hpt z0 m1 (fun b hb s => ⟨(x1 b hb s).1, (x1 b hb s).2.1⟩) x2) ?_
    intro c eo' so' ne' io' td' tf' tb' tc' vA' cH' mK' b
    exact K c eo' so' ne' io' td' tf' tb' tc' vA' cH' mK' sK' b
  · refine gl_30 hN hsN hd hfo hcn hpt hv hh hb hca hl (fun b hb s => by rw [h0 b (by omega)] at s; exact Bool.noConfusion s) (fun σ v _ _ b hb s => by rw [h0 b (by omega)] at s; exact Bool.noConfusion s) ?_
    intro c eo' so' ne' io' td' tf' tb' tc' vA' cH' mK' b
    exact K c eo' so' ne' io' td' tf' tb' tc' vA' cH' mK' sK0 b
theorem gl_settle {post : SX → Prop} {N : Nat} (hN : N ≤ 24) (hsN : sN = nI N) (hd : ∀ t, t < N → df_s kd ox oy oz wd t) (hfo : fo_ok fo wd N) (hcn : cn_ok kd wd nx en N) (hpt : pt_ok wd pP pD pE N) (hv : sv_ok hS wO) (hnv : sv_ok nO nW)
    (hh : hs_n kd wd N ≤ 60) (hb : gc_n kd ox wd N + nc_n kd wd N ≤ 220) (hca : ca_ok cA) (hl : lV = 0 ∨ lV = 1 ∨ lV = 2) (hbu : bU = 0 ∨ bU = 1) (hse : sE = 0 ∨ sE = 1)
    (hbi : bU = 1 → pL = 0 → wH = 0 ∧ bi_ok N kd ox oy oz wd fo nx en hS wO nO nW pP pD pE tc lV sE (nc, la, lb, nl, fl) eo so ne io tf tb vA sK)
    (K : ∀ (c : ga_C) eo' so' ne' io' td' tf' tb' tc' vA' cH' mK' sK', bi_ok N kd ox oy oz wd fo nx en hS wO nO nW pP pD pE tc' lV 1 c eo' so' ne' io' tf' tb' vA' sK' → post (sN, sC, sW, pP, pD, pE, c.1, tc', lV, 1, 0, 0, 1, kd, ox, oy, oz, wd, fo, su, rd, dp, nx, en, hS, wO, nO, nW, c.2.1, c.2.2.1, c.2.2.2.1, c.2.2.2.2, eo', so', ne', io', td', tf', tb', vA', cH', mK', cA, sK')) : wpX_settle post (sN, sC, sW, pP, pD, pE, nc, tc, lV, bU, pL, wH, sE, kd, ox, oy, oz, wd, fo, su, rd, dp, nx, en, hS, wO, nO, nW, la, lb, nl, fl, eo, so, ne, io, td, tf, tb, vA, cH, mK, cA, sK) := by
  unfold wpX_settle
  have re : wX_settle_14 post sN sC sW pP pD pE nc tc lV bU pL wH sE kd ox oy oz wd fo su rd dp nx en hS wO nO nW la lb nl fl eo so ne io td tf tb vA cH mK cA sK := gl_14 hN hsN hd hfo hcn hpt hv hnv hh hb hca hl K
  rcases hbu with z | z
  · exact br_t z re
  · refine br_f (by rw [z]; decide) (br_c (fun p => ?_) (fun _ => re))
    obtain ⟨w1, m, hst, hcl, htl, w0, hw0, hk, hs⟩ := hbi z p
    subst z p w1
    refine gl_92 (c := (nc, la, lb, nl, fl)) (w0 := w0) hv m hst hcl htl hw0 (fun n hn g => hk n hn (Or.inr ⟨hn, Or.inl g⟩)) (fun _ => hk) (fun e => ⟨rfl, by rcases hse with z | z; exact absurd z e; exact z, hs e⟩) ?_
    intro vA' cH' b
    exact K (nc, la, lb, nl, fl) eo so ne io td tf tb tc vA' cH' mK sK b
end
end
section
/-! the reference: work -/
theorem ym_tn (n : Nat) {W : Nat} (hW : W ≤ 32) : (nI n).toBitVec.toNat % 2 ^ W = n % 2 ^ W := by
  show (BitVec.ofNat 32 n).toNat % 2 ^ W = _
  rw [BitVec.toNat_ofNat, Nat.mod_mod_of_dvd _ (Nat.pow_dvd_pow 2 hW)]
theorem ym_mask {W : Nat} (hW : W ≤ 6) : (1 : Int32) <<< (nI W &&& 31) - 1 = nI (2 ^ W - 1) := by
  have h2 : (2 : Nat) ^ W ≤ 2 ^ 6 := Nat.pow_le_pow_right (by decide) hW
  have h0 := Nat.two_pow_pos W
  rw [show (1 : Int32) <<< (nI W &&& 31) = nI (1 * 2 ^ W) from pk_shlN (n := 1) (nI W &&& 31) W (s_l W (by omega)) (by omega), Nat.one_mul]
  exact pk_sub (b := 1) h0
theorem ym_and {W : Nat} (hW : W ≤ 6) (n : Nat) : nI n &&& ((1 : Int32) <<< (nI W &&& 31) - 1) = nI (n % 2 ^ W) := by
  have h2 : (2 : Nat) ^ W ≤ 2 ^ 6 := Nat.pow_le_pow_right (by decide) hW
  rw [ym_mask hW, pk_and _ W (pk_tn (by omega)), ym_tn n (by omega)]
theorem ym_not {p W : Nat} (hp : p < 2 ^ W) (hW : W ≤ 6) : (nI p ^^^ (-1)) &&& ((1 : Int32) <<< (nI W &&& 31) - 1) = nI (2 ^ W - 1 - p) := by
  rw [show nI p ^^^ (-1) = nI (p ^^^ (2 ^ 32 - 1)) from nx_xor p (2 ^ 32 - 1), ym_and hW]
  congr 1
  apply Nat.eq_of_testBit_eq
  intro i
  rw [Nat.testBit_mod_two_pow, Nat.testBit_xor, Nat.testBit_two_pow_sub_one, show 2 ^ W - 1 - p = 2 ^ W - (p + 1) from by omega, Nat.testBit_two_pow_sub_succ hp]
  by_cases h : i < W
  · have h2 : i < 32 := by omega
    simp [h, h2]
  · simp [h]
theorem ym_sub {p q W : Nat} (hq : q < 2 ^ W) (hW : W ≤ 6) : (nI p - nI q) &&& ((1 : Int32) <<< (nI W &&& 31) - 1) = nI ((p + 2 ^ W - q) % 2 ^ W) := by
  have h2 : (2 : Nat) ^ W ≤ 2 ^ 6 := Nat.pow_le_pow_right (by decide) hW
  have e : nI p = nI (p + 2 ^ 32) := by
    apply Int32.toBitVec_inj.1
    show BitVec.ofNat 32 p = BitVec.ofNat 32 (p + 2 ^ 32)
    apply BitVec.eq_of_toNat_eq
    rw [BitVec.toNat_ofNat, BitVec.toNat_ofNat, Nat.add_mod_right]
  rw [e, pk_sub (by omega), ym_and hW]
  congr 1
  have d : (2 : Nat) ^ 32 = 2 ^ (32 - W) * 2 ^ W := by rw [← Nat.pow_add]; congr 1; omega
  have k0 : 1 ≤ (2 : Nat) ^ (32 - W) := Nat.two_pow_pos _
  obtain ⟨k, hk⟩ : ∃ k, (2 : Nat) ^ (32 - W) = k + 1 := ⟨2 ^ (32 - W) - 1, by omega⟩
  rw [d, hk, Nat.add_mul, Nat.one_mul, show p + (k * 2 ^ W + 2 ^ W) - q = (p + 2 ^ W - q) + k * 2 ^ W from by omega, Nat.add_mul_mod_self_right]
theorem ym_join {p q V : Nat} (hq : q < 2 ^ V) (hp : p < 64) (hV : V ≤ 6) : (nI p <<< (nI V &&& 31)) ||| nI q = nI (p * 2 ^ V + q) := by
  have h2 : (2 : Nat) ^ V ≤ 2 ^ 6 := Nat.pow_le_pow_right (by decide) hV
  have h3 : p * 2 ^ V ≤ 64 * 2 ^ 6 := Nat.mul_le_mul (by omega) h2
  rw [pk_shlN (nI V &&& 31) V (s_l V (by omega)) (by omega), nx_or, Nat.mul_comm, ← Nat.two_pow_add_eq_or_of_lt hq]
section
variable {yn yc yh yp yd yw : Int32} {ki eX eY eZ wi sT nT fR vL nX eN mE nM tR mT : Nat → Int32}
theorem yw_ones4 {post : Int32 → Prop} {p : Nat} (hp : p < 2 ^ 31) (K : post (nI (pc_n (fun i => p.testBit i) 6))) : ∀ d i, 6 < d + i → i ≤ 6 → wY_ones_4 post (nI p) yn yc yh yp yd yw ki eX eY eZ wi sT nT fR vL nX eN mE nM tR mT d (nI (pc_n (fun i => p.testBit i) i)) (nI i) := by
  intro d
  induction d with
  | zero => intro i h1 h2; omega
  | succ d ih =>
    intro i h1 h2
    unfold wY_ones_4
    refine pk_le 6 i (fun hle => ?_) (fun hlt => ?_)
    · have e : i = 6 := by omega
      subst e
      exact K
    · intro x hex
      rw [bx_sh hp (by omega), nI_add] at hex
      intro y hey
      have e2 := hey.trans (nI_1 i)
      subst e2 hex
      exact ih (i + 1) (by omega) (by omega)
theorem yw_ones {post : Int32 → Prop} {p : Nat} (hp : p < 2 ^ 31) (K : post (nI (pc_n (fun i => p.testBit i) 6))) : wpY_ones post (yn, yc, yh, yp, yd, yw, ki, eX, eY, eZ, wi, sT, nT, fR, vL, nX, eN, mE, nM, tR, mT) (nI p) := by
  unfold wpY_ones
  exact ⟨7, yw_ones4 hp K 7 0 (by omega) (by omega)⟩
/-- what is worked out, cut to the width -/
theorem yw_worked {post : Int32 → Prop} {s : Nat} {mem : Nat → Nat} (hs : s < 24) (d : df_s ki eX eY eZ wi s) (hk0 : ¬ (ki s = 0 ∨ ki s = 2)) (hv : ∀ t, t < s → vL t = nI (cl_n vL t) ∧ cl_n vL t < 2 ^ cl_n wi t) (hw : ∀ t, t < s → wi t = nI (cl_n wi t) ∧ cl_n wi t ≤ 6) (hm : ∀ p, p < 4 → mE p = nI (mem p) ∧ mem p < 16)
    (K : ∀ r, r &&& ((1 : Int32) <<< (nI (cl_n wi s) &&& 31) - 1) = nI (wk_f (cl_n ki s) (cl_n wi s) (cl_n vL (cl_n eX s)) (cl_n vL (cl_n eY s)) (cl_n vL (cl_n eZ s)) (cl_n eY s) (cl_n wi (cl_n eY s)) mem) → wk_f (cl_n ki s) (cl_n wi s) (cl_n vL (cl_n eX s)) (cl_n vL (cl_n eY s)) (cl_n vL (cl_n eZ s)) (cl_n eY s) (cl_n wi (cl_n eY s)) mem < 2 ^ cl_n wi s → post r) : wpY_worked post (yn, yc, yh, yp, yd, yw, ki, eX, eY, eZ, wi, sT, nT, fR, vL, nX, eN, mE, nM, tR, mT) (nI s) := by
  have hin : vp_in (nI s) 24 := vp_in_nI hs (by omega)
  have hc : (nI s).toNatClampNeg = s := nI_clamp (by omega)
  have hW := d.2.2.2.2.1
  have hW1 := d.2.2.2.1
  have wc := d.2.2.2.2.2.2.2.2.2.2
  have two : (2 : Nat) ^ cl_n wi s ≤ 2 ^ 6 := Nat.pow_le_pow_right (by decide) hW
  -- a number that is what is wanted
  have KN : ∀ X : Nat, wk_f (cl_n ki s) (cl_n wi s) (cl_n vL (cl_n eX s)) (cl_n vL (cl_n eY s)) (cl_n vL (cl_n eZ s)) (cl_n eY s) (cl_n wi (cl_n eY s)) mem = X % 2 ^ cl_n wi s → post (nI X) := by
    intro X hX
    refine K (nI X) ?_ (by rw [hX]; exact Nat.mod_lt _ (Nat.two_pow_pos _))
    rw [ym_and hW, hX]
  have KS : ∀ X : Nat, wk_f (cl_n ki s) (cl_n wi s) (cl_n vL (cl_n eX s)) (cl_n vL (cl_n eY s)) (cl_n vL (cl_n eZ s)) (cl_n eY s) (cl_n wi (cl_n eY s)) mem = X → X < 2 ^ cl_n wi s → post (nI X) := by
    intro X hX hl
    exact KN X (by rw [hX, Nat.mod_eq_of_lt hl])
  unfold wpY_worked
  refine ⟨hin, ?_⟩
  intro k' ek
  rw [hc] at ek
  have hkk : cl_n ki s = 1 ∨ cl_n ki s = 3 ∨ cl_n ki s = 4 ∨ cl_n ki s = 5 ∨ cl_n ki s = 6 ∨ cl_n ki s = 7 ∨ cl_n ki s = 8 ∨ cl_n ki s = 9 ∨ cl_n ki s = 10 ∨ cl_n ki s = 11 ∨ cl_n ki s = 12 ∨ cl_n ki s = 13 ∨ cl_n ki s = 14 ∨ cl_n ki s = 15 ∨ cl_n ki s = 16 ∨ cl_n ki s = 17 ∨ cl_n ki s = 18 := by
    have h18 := d.2.1
    have n0 : cl_n ki s ≠ 0 := fun z => hk0 (Or.inl ((df_k d (k := 0) (by decide)).mpr z))
    have n2 : cl_n ki s ≠ 2 := fun z => hk0 (Or.inr ((df_k d (k := 2) (by decide)).mpr z))
    omega
  by_cases hk1 : cl_n ki s = 1
  · have hy := d.2.2.2.2.2.2.2.2.1 (Or.inl hk1)
    refine br_t (by rw [ek, d.1, hk1]; rfl) ⟨hin, ?_⟩
    rw [hc, hy.1]
    exact KS _ (by rw [hk1]; rfl) hy.2
  · have hx := d.2.2.2.2.2.1 (by omega)
    have vx := hv _ hx.2
    have wx := hw _ hx.2
    have twx : (2 : Nat) ^ cl_n wi (cl_n eX s) ≤ 2 ^ 6 := Nat.pow_le_pow_right (by decide) wx.2
    have ekk : k' = nI (cl_n ki s) := ek.trans d.1
    have exx : (eX s).toNatClampNeg = cl_n eX s := rfl
    refine br_f (fun z => hk1 ((nI_eq (b := 1) (by omega) (by omega)).mp (ekk.symm.trans z))) ⟨hin, ?_⟩
    rw [hc]
    refine ⟨by rw [hx.1]; exact vp_in_nI (by omega) (by omega), ?_⟩
    intro p' ep
    rw [exx, vx.1] at ep
    subst ep
    rcases hkk with hk | hk | hk | hk | hk | hk | hk | hk | hk | hk | hk | hk | hk | hk | hk | hk | hk
    · exact absurd hk hk1
    · rw [hk] at ekk
      subst ekk
      have p6 : cl_n vL (cl_n eX s) < 64 := by omega
      refine br_t rfl (K _ ?_ ?_)
      · rw [hk]
        exact ym_not (by rw [wc.1 hk]; exact vx.2) hW
      · rw [hk]
        show 2 ^ cl_n wi s - 1 - _ < 2 ^ cl_n wi s
        have := Nat.two_pow_pos (cl_n wi s)
        omega
    · rw [hk] at ekk
      subst ekk
      have p6 : cl_n vL (cl_n eX s) < 64 := by omega
      have hy := d.2.2.2.2.2.2.1 (by omega) (by omega)
      have vy := hv _ hy.2
      have wy := hw _ hy.2
      have twy : (2 : Nat) ^ cl_n wi (cl_n eY s) ≤ 2 ^ 6 := Nat.pow_le_pow_right (by decide) wy.2
      have q6 : cl_n vL (cl_n eY s) < 64 := by omega
      refine br_f (by decide) (br_f (by decide) (br_f (by decide) (br_f (by decide) ⟨hin, ?_⟩)))
      refine ⟨by rw [hy.1]; exact vp_in_nI (by omega) (by omega), ?_⟩
      intro q' eq
      rw [show (eY s).toNatClampNeg = cl_n eY s from rfl, vy.1] at eq
      subst eq
      refine br_f (by decide) (br_f (by decide) ?_)
      unfold wpY_joined
      refine br_t rfl ?_
      have w1 := wc.2.1 (by omega) (by omega)
      rw [nx_and]
      exact KS _ (by rw [hk]; rfl) (Nat.and_lt_two_pow _ (by rw [w1.2]; exact vy.2))
    · rw [hk] at ekk
      subst ekk
      have p6 : cl_n vL (cl_n eX s) < 64 := by omega
      have hy := d.2.2.2.2.2.2.1 (by omega) (by omega)
      have vy := hv _ hy.2
      have wy := hw _ hy.2
      have twy : (2 : Nat) ^ cl_n wi (cl_n eY s) ≤ 2 ^ 6 := Nat.pow_le_pow_right (by decide) wy.2
      have q6 : cl_n vL (cl_n eY s) < 64 := by omega
      refine br_f (by decide) (br_f (by decide) (br_f (by decide) (br_f (by decide) ⟨hin, ?_⟩)))
      refine ⟨by rw [hy.1]; exact vp_in_nI (by omega) (by omega), ?_⟩
      intro q' eq
      rw [show (eY s).toNatClampNeg = cl_n eY s from rfl, vy.1] at eq
      subst eq
      refine br_f (by decide) (br_f (by decide) ?_)
      unfold wpY_joined
      refine br_f (by decide) (br_t rfl ?_)
      have w1 := wc.2.1 (by omega) (by omega)
      rw [nx_or]
      exact KS _ (by rw [hk]; rfl) (Nat.or_lt_two_pow (by rw [w1.1]; exact vx.2) (by rw [w1.2]; exact vy.2))
    · rw [hk] at ekk
      subst ekk
      have p6 : cl_n vL (cl_n eX s) < 64 := by omega
      have hy := d.2.2.2.2.2.2.1 (by omega) (by omega)
      have vy := hv _ hy.2
      have wy := hw _ hy.2
      have twy : (2 : Nat) ^ cl_n wi (cl_n eY s) ≤ 2 ^ 6 := Nat.pow_le_pow_right (by decide) wy.2
      have q6 : cl_n vL (cl_n eY s) < 64 := by omega
      refine br_f (by decide) (br_f (by decide) (br_f (by decide) (br_f (by decide) ⟨hin, ?_⟩)))
      refine ⟨by rw [hy.1]; exact vp_in_nI (by omega) (by omega), ?_⟩
      intro q' eq
      rw [show (eY s).toNatClampNeg = cl_n eY s from rfl, vy.1] at eq
      subst eq
      refine br_f (by decide) (br_f (by decide) ?_)
      unfold wpY_joined
      refine br_f (by decide) (br_f (by decide) (br_t rfl ?_))
      have w1 := wc.2.1 (by omega) (by omega)
      rw [nx_xor]
      exact KS _ (by rw [hk]; rfl) (Nat.xor_lt_two_pow (by rw [w1.1]; exact vx.2) (by rw [w1.2]; exact vy.2))
    · rw [hk] at ekk
      subst ekk
      have p6 : cl_n vL (cl_n eX s) < 64 := by omega
      have hy := d.2.2.2.2.2.2.1 (by omega) (by omega)
      have vy := hv _ hy.2
      have wy := hw _ hy.2
      have twy : (2 : Nat) ^ cl_n wi (cl_n eY s) ≤ 2 ^ 6 := Nat.pow_le_pow_right (by decide) wy.2
      have q6 : cl_n vL (cl_n eY s) < 64 := by omega
      refine br_f (by decide) (br_f (by decide) (br_f (by decide) (br_f (by decide) ⟨hin, ?_⟩)))
      refine ⟨by rw [hy.1]; exact vp_in_nI (by omega) (by omega), ?_⟩
      intro q' eq
      rw [show (eY s).toNatClampNeg = cl_n eY s from rfl, vy.1] at eq
      subst eq
      refine br_f (by decide) (br_f (by decide) ?_)
      unfold wpY_joined
      refine br_f (by decide) (br_f (by decide) (br_f (by decide) (br_t rfl ?_)))
      rw [nI_add]
      exact KN _ (by rw [hk]; rfl)
    · rw [hk] at ekk
      subst ekk
      have p6 : cl_n vL (cl_n eX s) < 64 := by omega
      have hy := d.2.2.2.2.2.2.1 (by omega) (by omega)
      have vy := hv _ hy.2
      have wy := hw _ hy.2
      have twy : (2 : Nat) ^ cl_n wi (cl_n eY s) ≤ 2 ^ 6 := Nat.pow_le_pow_right (by decide) wy.2
      have q6 : cl_n vL (cl_n eY s) < 64 := by omega
      refine br_f (by decide) (br_f (by decide) (br_f (by decide) (br_f (by decide) ⟨hin, ?_⟩)))
      refine ⟨by rw [hy.1]; exact vp_in_nI (by omega) (by omega), ?_⟩
      intro q' eq
      rw [show (eY s).toNatClampNeg = cl_n eY s from rfl, vy.1] at eq
      subst eq
      refine br_f (by decide) (br_f (by decide) ?_)
      unfold wpY_joined
      refine br_f (by decide) (br_f (by decide) (br_f (by decide) (br_f (by decide) (br_t rfl ?_))))
      have w1 := wc.2.1 (by omega) (by omega)
      refine K _ ?_ ?_
      · rw [hk]
        exact ym_sub (by rw [w1.2]; exact vy.2) hW
      · rw [hk]
        exact Nat.mod_lt _ (Nat.two_pow_pos _)
    · rw [hk] at ekk
      subst ekk
      have p6 : cl_n vL (cl_n eX s) < 64 := by omega
      have hy := d.2.2.2.2.2.2.1 (by omega) (by omega)
      have vy := hv _ hy.2
      have wy := hw _ hy.2
      have twy : (2 : Nat) ^ cl_n wi (cl_n eY s) ≤ 2 ^ 6 := Nat.pow_le_pow_right (by decide) wy.2
      have q6 : cl_n vL (cl_n eY s) < 64 := by omega
      refine br_f (by decide) (br_f (by decide) (br_f (by decide) (br_f (by decide) ⟨hin, ?_⟩)))
      refine ⟨by rw [hy.1]; exact vp_in_nI (by omega) (by omega), ?_⟩
      intro q' eq
      rw [show (eY s).toNatClampNeg = cl_n eY s from rfl, vy.1] at eq
      subst eq
      refine br_f (by decide) (br_f (by decide) ?_)
      unfold wpY_joined
      refine br_f (by decide) (br_f (by decide) (br_f (by decide) (br_f (by decide) (br_f (by decide) (br_t rfl ?_)))))
      rw [pk_mul]
      exact KN _ (by rw [hk]; rfl)
    · rw [hk] at ekk
      subst ekk
      have p6 : cl_n vL (cl_n eX s) < 64 := by omega
      have hy := d.2.2.2.2.2.2.1 (by omega) (by omega)
      have vy := hv _ hy.2
      have wy := hw _ hy.2
      have twy : (2 : Nat) ^ cl_n wi (cl_n eY s) ≤ 2 ^ 6 := Nat.pow_le_pow_right (by decide) wy.2
      have q6 : cl_n vL (cl_n eY s) < 64 := by omega
      refine br_f (by decide) (br_f (by decide) (br_f (by decide) (br_f (by decide) ⟨hin, ?_⟩)))
      refine ⟨by rw [hy.1]; exact vp_in_nI (by omega) (by omega), ?_⟩
      intro q' eq
      rw [show (eY s).toNatClampNeg = cl_n eY s from rfl, vy.1] at eq
      subst eq
      refine br_f (by decide) (br_f (by decide) ?_)
      unfold wpY_joined
      refine br_f (by decide) (br_f (by decide) (br_f (by decide) (br_f (by decide) (br_f (by decide) (br_f (by decide) (br_t rfl ?_))))))
      have w1 := wc.2.2.1 (by omega)
      refine pk_le (cl_n vL (cl_n eY s)) (cl_n vL (cl_n eX s)) (fun e => ?_) (fun e => ?_)
      · exact KS 0 (by rw [hk]; exact if_neg (show ¬ cl_n vL (cl_n eX s) < cl_n vL (cl_n eY s) from by omega)) (Nat.two_pow_pos _)
      · exact KS 1 (by rw [hk]; exact if_pos e) (by rw [w1.1]; decide)
    · rw [hk] at ekk
      subst ekk
      have p6 : cl_n vL (cl_n eX s) < 64 := by omega
      have hy := d.2.2.2.2.2.2.1 (by omega) (by omega)
      have vy := hv _ hy.2
      have wy := hw _ hy.2
      have twy : (2 : Nat) ^ cl_n wi (cl_n eY s) ≤ 2 ^ 6 := Nat.pow_le_pow_right (by decide) wy.2
      have q6 : cl_n vL (cl_n eY s) < 64 := by omega
      refine br_f (by decide) (br_f (by decide) (br_f (by decide) (br_f (by decide) ⟨hin, ?_⟩)))
      refine ⟨by rw [hy.1]; exact vp_in_nI (by omega) (by omega), ?_⟩
      intro q' eq
      rw [show (eY s).toNatClampNeg = cl_n eY s from rfl, vy.1] at eq
      subst eq
      refine br_f (by decide) (br_f (by decide) ?_)
      unfold wpY_joined
      refine br_f (by decide) (br_f (by decide) (br_f (by decide) (br_f (by decide) (br_f (by decide) (br_f (by decide) (br_f (by decide) (br_t rfl ?_)))))))
      have w1 := wc.2.2.1 (by omega)
      refine pk_eq (cl_n vL (cl_n eX s)) (cl_n vL (cl_n eY s)) (fun e => ?_) (fun e => ?_)
      · exact KS 1 (by rw [hk]; exact if_pos e) (by rw [w1.1]; decide)
      · exact KS 0 (by rw [hk]; exact if_neg e) (Nat.two_pow_pos _)
    · rw [hk] at ekk
      subst ekk
      have p6 : cl_n vL (cl_n eX s) < 64 := by omega
      have hy := d.2.2.2.2.2.2.1 (by omega) (by omega)
      have vy := hv _ hy.2
      have wy := hw _ hy.2
      have twy : (2 : Nat) ^ cl_n wi (cl_n eY s) ≤ 2 ^ 6 := Nat.pow_le_pow_right (by decide) wy.2
      have q6 : cl_n vL (cl_n eY s) < 64 := by omega
      refine br_f (by decide) (br_f (by decide) (br_f (by decide) (br_f (by decide) ⟨hin, ?_⟩)))
      refine ⟨by rw [hy.1]; exact vp_in_nI (by omega) (by omega), ?_⟩
      intro q' eq
      rw [show (eY s).toNatClampNeg = cl_n eY s from rfl, vy.1] at eq
      subst eq
      have w1 := wc.2.2.2.1 hk
      have hz := d.2.2.2.2.2.2.2.1 hk
      have vz := hv _ hz.2
      refine br_t rfl (pk_eq (cl_n vL (cl_n eX s)) 1 (fun e => ?_) (fun e => ⟨hin, ?_⟩))
      · exact KS _ (by rw [hk]; exact if_pos e) (by rw [w1.2.1]; exact vy.2)
      · rw [show (eZ s).toNatClampNeg = cl_n eZ s from rfl, vz.1]
        exact ⟨by rw [hz.1]; exact vp_in_nI (by omega) (by omega), KS _ (by rw [hk]; exact if_neg e) (by rw [w1.2.2]; exact vz.2)⟩
    · rw [hk] at ekk
      subst ekk
      have p6 : cl_n vL (cl_n eX s) < 64 := by omega
      have hy := d.2.2.2.2.2.2.1 (by omega) (by omega)
      have vy := hv _ hy.2
      have wy := hw _ hy.2
      have twy : (2 : Nat) ^ cl_n wi (cl_n eY s) ≤ 2 ^ 6 := Nat.pow_le_pow_right (by decide) wy.2
      have q6 : cl_n vL (cl_n eY s) < 64 := by omega
      refine br_f (by decide) (br_f (by decide) (br_f (by decide) (br_f (by decide) ⟨hin, ?_⟩)))
      refine ⟨by rw [hy.1]; exact vp_in_nI (by omega) (by omega), ?_⟩
      intro q' eq
      rw [show (eY s).toNatClampNeg = cl_n eY s from rfl, vy.1] at eq
      subst eq
      refine br_f (by decide) (br_f (by decide) ?_)
      unfold wpY_joined
      refine br_f (by decide) (br_f (by decide) (br_f (by decide) (br_f (by decide) (br_f (by decide) (br_f (by decide) (br_f (by decide) (br_f (by decide) (br_t rfl ?_))))))))
      have w1 := wc.2.2.2.2.1 (by omega)
      have e4 : nI (cl_n vL (cl_n eY s)) &&& 3 = nI (cl_n vL (cl_n eY s) % 4) := pk_andN (by omega) 2 (by decide)
      have h4 : cl_n vL (cl_n eY s) % 4 < 4 := Nat.mod_lt _ (by decide)
      have t4 : (2 : Nat) ^ (cl_n vL (cl_n eY s) % 4) ≤ 2 ^ 3 := Nat.pow_le_pow_right (by decide) (by omega)
      have t5 : cl_n vL (cl_n eX s) * 2 ^ (cl_n vL (cl_n eY s) % 4) ≤ 64 * 2 ^ 3 := Nat.mul_le_mul (by omega) t4
      rw [e4, pk_shlN (nI (cl_n vL (cl_n eY s) % 4) &&& 31) (cl_n vL (cl_n eY s) % 4) (s_l _ (by omega)) (by omega)]
      exact KN _ (by rw [hk]; rfl)
    · rw [hk] at ekk
      subst ekk
      have p6 : cl_n vL (cl_n eX s) < 64 := by omega
      have hy := d.2.2.2.2.2.2.1 (by omega) (by omega)
      have vy := hv _ hy.2
      have wy := hw _ hy.2
      have twy : (2 : Nat) ^ cl_n wi (cl_n eY s) ≤ 2 ^ 6 := Nat.pow_le_pow_right (by decide) wy.2
      have q6 : cl_n vL (cl_n eY s) < 64 := by omega
      refine br_f (by decide) (br_f (by decide) (br_f (by decide) (br_f (by decide) ⟨hin, ?_⟩)))
      refine ⟨by rw [hy.1]; exact vp_in_nI (by omega) (by omega), ?_⟩
      intro q' eq
      rw [show (eY s).toNatClampNeg = cl_n eY s from rfl, vy.1] at eq
      subst eq
      refine br_f (by decide) (br_f (by decide) ?_)
      unfold wpY_joined
      refine br_f (by decide) (br_f (by decide) (br_f (by decide) (br_f (by decide) (br_f (by decide) (br_f (by decide) (br_f (by decide) (br_f (by decide) (br_f (by decide) (?_)))))))))
      have w1 := wc.2.2.2.2.1 (by omega)
      have e4 : nI (cl_n vL (cl_n eY s)) &&& 3 = nI (cl_n vL (cl_n eY s) % 4) := pk_andN (by omega) 2 (by decide)
      have h4 : cl_n vL (cl_n eY s) % 4 < 4 := Nat.mod_lt _ (by decide)
      have t5 := Nat.div_le_self (cl_n vL (cl_n eX s)) (2 ^ (cl_n vL (cl_n eY s) % 4))
      have vx2 := vx.2
      rw [← w1.1] at vx2
      rw [e4, pk_shrN (by omega) (nI (cl_n vL (cl_n eY s) % 4) &&& 31) (cl_n vL (cl_n eY s) % 4) (s_l _ (by omega))]
      exact KS _ (by rw [hk]; rfl) (by omega)
    · rw [hk] at ekk
      subst ekk
      have p6 : cl_n vL (cl_n eX s) < 64 := by omega
      have hy := d.2.2.2.2.2.2.1 (by omega) (by omega)
      have vy := hv _ hy.2
      have wy := hw _ hy.2
      have twy : (2 : Nat) ^ cl_n wi (cl_n eY s) ≤ 2 ^ 6 := Nat.pow_le_pow_right (by decide) wy.2
      have q6 : cl_n vL (cl_n eY s) < 64 := by omega
      refine br_f (by decide) (br_f (by decide) (br_f (by decide) (br_f (by decide) ⟨hin, ?_⟩)))
      refine ⟨by rw [hy.1]; exact vp_in_nI (by omega) (by omega), ?_⟩
      intro q' eq
      rw [show (eY s).toNatClampNeg = cl_n eY s from rfl, vy.1] at eq
      subst eq
      have w1 := wc.2.2.2.2.2.1 hk
      refine br_f (by decide) (br_t rfl ⟨hin, ?_⟩)
      refine ⟨by rw [hy.1]; exact vp_in_nI (by omega) (by omega), ?_⟩
      rw [show (eY s).toNatClampNeg = cl_n eY s from rfl, wy.1, ym_join vy.2 p6 wy.2]
      refine KS _ (by rw [hk]; rfl) ?_
      rw [w1, Nat.pow_add]
      have h1 : (cl_n vL (cl_n eX s) + 1) * 2 ^ cl_n wi (cl_n eY s) ≤ 2 ^ cl_n wi (cl_n eX s) * 2 ^ cl_n wi (cl_n eY s) := Nat.mul_le_mul_right _ vx.2
      rw [Nat.add_mul, Nat.one_mul] at h1
      have h2 := vy.2
      omega
    · rw [hk] at ekk
      subst ekk
      have p6 : cl_n vL (cl_n eX s) < 64 := by omega
      have w1 := wc.2.2.2.2.2.2.1 hk
      have hy := d.2.2.2.2.2.2.2.2.2.1 hk
      refine br_f (by decide) (br_t rfl ⟨hin, ?_⟩)
      rw [hy, pk_shrN (by omega) (nI (cl_n eY s) &&& 31) (cl_n eY s) (s_l _ (by omega))]
      exact KN _ (by rw [hk]; rfl)
    · rw [hk] at ekk
      subst ekk
      have p6 : cl_n vL (cl_n eX s) < 64 := by omega
      have w1 := wc.2.2.2.2.2.2.2.1 hk
      have pl := pc_le (fun i => (cl_n vL (cl_n eX s)).testBit i) 6
      refine br_f (by decide) (br_f (by decide) (br_t rfl ?_))
      refine yw_ones (by omega) ?_
      exact KS _ (by rw [hk]; rfl) (by rw [w1]; omega)
    · rw [hk] at ekk
      subst ekk
      have p6 : cl_n vL (cl_n eX s) < 64 := by omega
      have w1 := wc.2.2.2.2.2.2.2.2 hk
      have m4 := hm (cl_n vL (cl_n eX s) % 4) (by omega)
      have e4 : nI (cl_n vL (cl_n eX s)) &&& 3 = nI (cl_n vL (cl_n eX s) % 4) := pk_andN (by omega) 2 (by decide)
      refine br_f (by decide) (br_f (by decide) (br_f (by decide) (br_t rfl ?_)))
      rw [e4, nI_clamp (by omega), m4.1]
      exact ⟨vp_in_nI (by omega) (by omega), KS _ (by rw [hk]; rfl) (by rw [w1.1]; exact m4.2)⟩
end
section
variable {yn yc yh yp yd yw : Int32} {ki eX eY eZ wi sT nT fR nX eN mE nM tR mT : Nat → Int32}
/-- all values -/
theorem yw_work2 {post : SY → Prop} {N : Nat} {x1 : Int32} {st mem : Nat → Nat} (hN : N ≤ 24) (hyn : yn = nI N) (hd : ∀ t, t < N → df_s ki eX eY eZ wi t) (hfo : fo_ok fR wi N) (hst : ∀ s, s < N → ki s = 0 ∨ ki s = 2 → (if x1 = 0 then sT s else tR s) = nI (st s) ∧ st s < 2 ^ cl_n wi s) (hm : ∀ p, p < 4 → mE p = nI (mem p) ∧ mem p < 16)
    (K : ∀ vL', (∀ t, t < N → vL' t = nI (cl_n vL' t) ∧ cl_n vL' t < 2 ^ cl_n wi t) → sl_s N ki eX eY eZ wi fR st mem (cl_n vL') → post (yn, yc, yh, yp, yd, yw, ki, eX, eY, eZ, wi, sT, nT, fR, vL', nX, eN, mE, nM, tR, mT)) :
    ∀ (d s : Nat) (vL : Nat → Int32), N < d + s → s ≤ N → (∀ t, t < s → vL t = nI (cl_n vL t) ∧ cl_n vL t < 2 ^ cl_n wi t) → sl_s s ki eX eY eZ wi fR st mem (cl_n vL) → wY_work_2 post x1 yn yc yh yp yd yw d (nI s) ki eX eY eZ wi sT nT fR vL nX eN mE nM tR mT := by
  intro d
  induction d with
  | zero => intro s vL h1 h2; omega
  | succ d ih =>
    intro s vL h1 h2 hv hs
    unfold wY_work_2
    refine pk_le N s (fun hle => ?_) (fun hlt => ?_) hyn
    · have e : s = N := by omega
      subst e
      exact K vL hv hs
    · have dd := hd s hlt
      have hin : vp_in (nI s) 24 := vp_in_nI (by omega) (by omega)
      have hc : (nI s).toNatClampNeg = s := nI_clamp (by omega)
      have hW := dd.2.2.2.2.1
      have two : (2 : Nat) ^ cl_n wi s ≤ 2 ^ 6 := Nat.pow_le_pow_right (by decide) hW
      have h77 : ∀ (r : Int32) (X : Nat), r &&& ((1 : Int32) <<< (nI (cl_n wi s) &&& 31) - 1) = nI X → X < 2 ^ cl_n wi s → X = sp_f ki eX eY eZ wi fR st mem (cl_n vL) s → wY_work_77 post (wY_work_2 post x1 yn yc yh yp yd yw d) x1 (nI s) r yn yc yh yp yd yw ki eX eY eZ wi sT nT fR vL nX eN mE nM tR mT := by
        intro r X e1 e2 e3
        unfold wY_work_77
        refine ⟨hin, hin, ?_⟩
        intro v' ev
        rw [hc, dd.2.2.1] at ev
        have ev2 : v' = upd vL s (nI X) := by rw [ev]; exact congrArg _ e1
        intro y hey
        have e4 := hey.trans (nI_1 s)
        subst e4 ev2
        have low : ∀ t, t < s → cl_n (upd vL s (nI X)) t = cl_n vL t := fun t ht => by
          show (upd vL s (nI X) t).toNatClampNeg = _
          rw [pk_un (by omega)]
        have at_s : cl_n (upd vL s (nI X)) s = X := by
          show (upd vL s (nI X) s).toNatClampNeg = _
          rw [pk_us]
          exact nI_clamp (by omega)
        refine ih (s + 1) _ (by omega) (by omega) (fun t ht => ?_) (fun t ht => ?_)
        · by_cases q : t = s
          · rw [q, at_s, pk_us]
            exact ⟨rfl, e2⟩
          · rw [low t (by omega), pk_un q]
            exact hv t (by omega)
        · have dt := hd t (by omega)
          have cg : sp_f ki eX eY eZ wi fR st mem (cl_n (upd vL s (nI X))) t = sp_f ki eX eY eZ wi fR st mem (cl_n vL) t :=
            sp_cg dt (fun _ => rfl) (fun _ _ _ => rfl) (fun z => low _ (by have := (dt.2.2.2.2.2.1 z).2; omega)) (fun z z2 => low _ (by have := (dt.2.2.2.2.2.2.1 z z2).2; omega)) (fun z => low _ (by have := (dt.2.2.2.2.2.2.2.1 z).2; omega))
          rw [cg]
          by_cases q : t = s
          · rw [q, at_s, e3]
          · rw [low t (by omega)]
            exact hs t (by omega)
      refine ⟨hin, ?_⟩
      rw [hc]
      rcases hfo s hlt with z | ⟨f, z1, z2⟩
      · have spu : sp_f ki eX eY eZ wi fR st mem (cl_n vL) s = us_f ki eX eY eZ wi st mem (cl_n vL) s := if_pos z
        refine br_t (by rw [z]; decide) ⟨hin, ?_⟩
        have h48 : ki s = 0 ∨ ki s = 2 → wY_work_48 post (wY_work_2 post x1 yn yc yh yp yd yw d) x1 (nI s) yn yc yh yp yd yw ki eX eY eZ wi sT nT fR vL nX eN mE nM tR mT := by
          intro q
          have y := hst s hlt q
          have fin : ∀ r, r = nI (st s) → wY_work_67 post (wY_work_2 post x1 yn yc yh yp yd yw d) x1 (nI s) r yn yc yh yp yd yw ki eX eY eZ wi sT nT fR vL nX eN mE nM tR mT := by
            intro r er
            unfold wY_work_67
            refine h77 r (st s) ?_ y.2 (by rw [spu, us_st q])
            rw [er, ym_and hW, Nat.mod_eq_of_lt y.2]
          unfold wY_work_48
          refine br_c (fun e => ⟨hin, ?_⟩) (fun e => ⟨hin, ?_⟩)
          · rw [if_pos e] at y
            rw [hc]; exact fin _ y.1
          · rw [if_neg e] at y
            rw [hc]; exact fin _ y.1
        refine br_c (fun q => h48 (Or.inl q)) (fun q0 => ⟨hin, ?_⟩)
        refine br_c (fun q => h48 (Or.inr q)) (fun q2 => ?_)
        have kn : ¬ (ki s = 0 ∨ ki s = 2) := fun q => by
          rcases q with q | q
          · exact q0 q
          · exact q2 q
        refine yw_worked (by omega) dd kn hv (fun t ht => ⟨(hd t (by omega)).2.2.1, (hd t (by omega)).2.2.2.2.1⟩) hm ?_
        intro r e1 e2
        refine h77 r _ e1 e2 ?_
        rw [spu]
        unfold us_f
        rw [if_neg kn]
      · have f31 : f < 2 ^ 31 := by omega
        refine br_f (by rw [z1]; exact nI_pos f31) ⟨hin, ?_⟩
        intro r er
        rw [z1] at er
        refine h77 r f ?_ z2 ?_
        · rw [er, ym_and hW, Nat.mod_eq_of_lt z2]
        · unfold sp_f
          rw [if_neg (by rw [z1]; exact nr_ne f31)]
          show f = (fR s).toNatClampNeg
          rw [z1, nI_clamp f31]
variable {vL : Nat → Int32}
theorem yw_work {post : SY → Prop} {N : Nat} {x1 : Int32} {st mem : Nat → Nat} (hN : N ≤ 24) (hyn : yn = nI N) (hd : ∀ t, t < N → df_s ki eX eY eZ wi t) (hfo : fo_ok fR wi N) (hst : ∀ s, s < N → ki s = 0 ∨ ki s = 2 → (if x1 = 0 then sT s else tR s) = nI (st s) ∧ st s < 2 ^ cl_n wi s) (hm : ∀ p, p < 4 → mE p = nI (mem p) ∧ mem p < 16)
    (K : ∀ vL', (∀ t, t < N → vL' t = nI (cl_n vL' t) ∧ cl_n vL' t < 2 ^ cl_n wi t) → sl_s N ki eX eY eZ wi fR st mem (cl_n vL') → post (yn, yc, yh, yp, yd, yw, ki, eX, eY, eZ, wi, sT, nT, fR, vL', nX, eN, mE, nM, tR, mT)) : wpY_work post (yn, yc, yh, yp, yd, yw, ki, eX, eY, eZ, wi, sT, nT, fR, vL, nX, eN, mE, nM, tR, mT) x1 := by
  unfold wpY_work
  exact ⟨N + 1, yw_work2 hN hyn hd hfo hst hm K (N + 1) 0 vL (by omega) (by omega) (fun t ht => absurd ht (by omega)) (fun t ht => absurd ht (by omega))⟩
end
end
section
/-! the relation -/
/-- what is known behind a signal -/
def lk_s (kd ox oy oz su rd dp : Nat → Int32) (s : Nat) : Prop :=
  (∀ j, j < 32 → bt (su s) j = ((decide (kd s = 0 ∨ kd s = 2) && decide (j = s)) || (decide (3 ≤ cl_n kd s) && bt (su (cl_n ox s)) j) || (decide (4 ≤ cl_n kd s ∧ cl_n kd s ≤ 15) && bt (su (cl_n oy s)) j) || (decide (cl_n kd s = 12) && bt (su (cl_n oz s)) j))) ∧
  (rd s = 0 ∨ rd s = 1) ∧ (rd s = 1 ↔ (cl_n kd s = 18 ∨ (3 ≤ cl_n kd s ∧ rd (cl_n ox s) = 1) ∨ ((4 ≤ cl_n kd s ∧ cl_n kd s ≤ 15) ∧ rd (cl_n oy s) = 1) ∨ (cl_n kd s = 12 ∧ rd (cl_n oz s) = 1))) ∧
  dp s = nI (cl_n dp s) ∧ cl_n dp s ≤ s ∧ cl_n dp s = (if cl_n kd s < 3 then 0 else max (max (cl_n dp (cl_n ox s)) (if 4 ≤ cl_n kd s ∧ cl_n kd s ≤ 15 then cl_n dp (cl_n oy s) else 0)) (if cl_n kd s = 12 then cl_n dp (cl_n oz s) else 0) + 1)
def ds_ok (N : Nat) (sN sC sW pP pD pE : Int32) (kd ox oy oz wd fo su rd dp nx en : Nat → Int32) : Prop :=
  sN = nI N ∧ N ≤ 24 ∧ (∀ t, t < N → df_s kd ox oy oz wd t) ∧ fo_ok fo wd N ∧ cn_ok kd wd nx en N ∧ pt_ok wd pP pD pE N ∧
  sC = nI (gc_n kd ox wd N + nc_n kd wd N) ∧ gc_n kd ox wd N + nc_n kd wd N ≤ 220 ∧ sW = nI (hs_n kd wd N) ∧ hs_n kd wd N ≤ 60 ∧ (∀ s, s < N → lk_s kd ox oy oz su rd dp s)
def st_ok (wd : Nat → Int32) (N : Nat) (hS wO : Nat → Int32) : Prop := (∀ s, s < 24 → hS s = nI (cl_n hS s) ∧ cl_n hS s < 64 ∧ (s < N → cl_n hS s < 2 ^ cl_n wd s)) ∧ ∀ p, p < 4 → wO p = nI (cl_n wO p) ∧ cl_n wO p < 16
theorem st_sv {wd : Nat → Int32} {N : Nat} {hS wO : Nat → Int32} (h : st_ok wd N hS wO) : sv_ok hS wO := ⟨fun s hs => ⟨_, (h.1 s hs).1, (h.1 s hs).2.1⟩, fun p hp => ⟨_, (h.2 p hp).1, (h.2 p hp).2⟩⟩
def fl_ok (lV bU pL sE : Int32) (cA : Nat → Int64) : Prop := (lV = 0 ∨ lV = 1 ∨ lV = 2) ∧ (bU = 0 ∨ bU = 1) ∧ (pL = 0 ∨ pL = 1) ∧ (sE = 0 ∨ sE = 1) ∧ ca_ok cA
section
variable {sN sC sW pP pD pE nc tc lV bU pL wH sE : Int32} {kd ox oy oz wd fo su rd dp nx en hS wO nO nW la lb nl fl eo so ne io td tf tb : Nat → Int32} {vA cH mK cA sK : Nat → Int64}
def rl_ok (N : Nat) (sN sC sW pP pD pE nc tc lV bU pL wH sE : Int32) (kd ox oy oz wd fo su rd dp nx en hS wO nO nW la lb nl fl eo so ne io tf tb : Nat → Int32) (vA cA sK : Nat → Int64) (yd yw : Int32) : Prop :=
  ds_ok N sN sC sW pP pD pE kd ox oy oz wd fo su rd dp nx en ∧ st_ok wd N hS wO ∧ st_ok wd N nO nW ∧ fl_ok lV bU pL sE cA ∧
  (bU = 1 → pL = 0 → wH = 0 ∧ bi_ok N kd ox oy oz wd fo nx en hS wO nO nW pP pD pE tc lV sE (nc, la, lb, nl, fl) eo so ne io tf tb vA sK) ∧ (pP = -1 ∨ (yd = pD ∧ yw = pE))
end
def i_Rel (_ : Nat) (u : SX) (v : SY) : Prop :=
∃ (N : Nat) (sN sC sW pP pD pE nc tc lV bU pL wH sE yd yw : Int32) (kd ox oy oz wd fo su rd dp nx en hS wO nO nW la lb nl fl eo so ne io td tf tb vL tR mT : Nat → Int32) (vA cH mK cA sK : Nat → Int64),
    u = (sN, sC, sW, pP, pD, pE, nc, tc, lV, bU, pL, wH, sE, kd, ox, oy, oz, wd, fo, su, rd, dp, nx, en, hS, wO, nO, nW, la, lb, nl, fl, eo, so, ne, io, td, tf, tb, vA, cH, mK, cA, sK) ∧ v = (sN, sC, sW, pP, yd, yw, kd, ox, oy, oz, wd, hS, nO, fo, vL, nx, en, wO, nW, tR, mT) ∧ rl_ok N sN sC sW pP pD pE nc tc lV bU pL wH sE kd ox oy oz wd fo su rd dp nx en hS wO nO nW la lb nl fl eo so ne io tf tb vA cA sK yd yw
theorem i_up {k : Nat} {u : SX} {v : SY} (h : i_Rel k u v) : i_Rel (k + 5) u v := h
theorem zz_mk {k N : Nat} {sN sC sW pP pD pE nc tc lV bU pL wH sE : Int32} {kd ox oy oz wd fo su rd dp nx en hS wO nO nW la lb nl fl eo so ne io td tf tb vL tR mT : Nat → Int32} {vA cH mK cA sK : Nat → Int64} {yd yw : Int32} (h : rl_ok N sN sC sW pP pD pE nc tc lV bU pL wH sE kd ox oy oz wd fo su rd dp nx en hS wO nO nW la lb nl fl eo so ne io tf tb vA cA sK yd yw) : i_Rel k (sN, sC, sW, pP, pD, pE, nc, tc, lV, bU, pL, wH, sE, kd, ox, oy, oz, wd, fo, su, rd, dp, nx, en, hS, wO, nO, nW, la, lb, nl, fl, eo, so, ne, io, td, tf, tb, vA, cH, mK, cA, sK) (sN, sC, sW, pP, yd, yw, kd, ox, oy, oz, wd, hS, nO, fo, vL, nx, en, wO, nW, tR, mT) :=
  ⟨N, sN, sC, sW, pP, pD, pE, nc, tc, lV, bU, pL, wH, sE, yd, yw, kd, ox, oy, oz, wd, fo, su, rd, dp, nx, en, hS, wO, nO, nW, la, lb, nl, fl, eo, so, ne, io, td, tf, tb, vL, tR, mT, vA, cH, mK, cA, sK, rfl, rfl, h⟩
theorem zz_el {k : Nat} {u : SX} {v : SY} {P : SX → SY → Prop} (h :
∀ (N : Nat) (sN sC sW pP pD pE nc tc lV bU pL wH sE yd yw : Int32) (kd ox oy oz wd fo su rd dp nx en hS wO nO nW la lb nl fl eo so ne io td tf tb vL tR mT : Nat → Int32) (vA cH mK cA sK : Nat → Int64),
    rl_ok N sN sC sW pP pD pE nc tc lV bU pL wH sE kd ox oy oz wd fo su rd dp nx en hS wO nO nW la lb nl fl eo so ne io tf tb vA cA sK yd yw → P (sN, sC, sW, pP, pD, pE, nc, tc, lV, bU, pL, wH, sE, kd, ox, oy, oz, wd, fo, su, rd, dp, nx, en, hS, wO, nO, nW, la, lb, nl, fl, eo, so, ne, io, td, tf, tb, vA, cH, mK, cA, sK) (sN, sC, sW, pP, yd, yw, kd, ox, oy, oz, wd, hS, nO, fo, vL, nx, en, wO, nW, tR, mT)) (I : i_Rel k u v) : P u v := by
  obtain ⟨N, sN, sC, sW, pP, pD, pE, nc, tc, lV, bU, pL, wH, sE, yd, yw, kd, ox, oy, oz, wd, fo, su, rd, dp, nx, en, hS, wO, nO, nW, la, lb, nl, fl, eo, so, ne, io, td, tf, tb, vL, tR, mT, vA, cH, mK, cA, sK, e1, e2, h3⟩ := I
  rw [e1, e2]
  exact h N sN sC sW pP pD pE nc tc lV bU pL wH sE yd yw kd ox oy oz wd fo su rd dp nx en hS wO nO nW la lb nl fl eo so ne io td tf tb vL tR mT vA cH mK cA sK h3
end
section
/-! signals, widths; word, level, connect, port, drive, force -/
theorem ix_no {p : Int32} {N : Nat} (hN : N < 2 ^ 31) (h : ¬ ∃ j, j < N ∧ p = nI j) : p < 0 ∨ (¬ p < 0 ∧ nI N ≤ p) := by
  rcases pk_ix p hN with z | z | z
  · exact Or.inl z
  · refine Or.inr ⟨fun q => nI_pos hN (Int32.lt_of_le_of_lt z q), z⟩
  · exact absurd z h
section
variable {sN sC sW pP pD pE nc tc lV bU pL wH sE : Int32} {kd ox oy oz wd fo su rd dp nx en hS wO nO nW la lb nl fl eo so ne io td tf tb : Nat → Int32} {vA cH mK cA sK : Nat → Int64}
theorem sx_sig1 {post : Int32 → Prop} {N j : Nat} (hN : N ≤ 24) (h : sN = nI N) (hj : j < N) (k : post 1) : wpX_isSignal post (sN, sC, sW, pP, pD, pE, nc, tc, lV, bU, pL, wH, sE, kd, ox, oy, oz, wd, fo, su, rd, dp, nx, en, hS, wO, nO, nW, la, lb, nl, fl, eo, so, ne, io, td, tf, tb, vA, cH, mK, cA, sK) (nI j) := by
  unfold wpX_isSignal
  exact br_f (nI_pos (by omega)) (br_f (by rw [h]; exact nI_ge hj (by omega)) k)
theorem sx_sig0 {post : Int32 → Prop} {N : Nat} {p : Int32} (hN : N ≤ 24) (h : sN = nI N) (hn : ¬ ∃ j, j < N ∧ p = nI j) (k : post 0) : wpX_isSignal post (sN, sC, sW, pP, pD, pE, nc, tc, lV, bU, pL, wH, sE, kd, ox, oy, oz, wd, fo, su, rd, dp, nx, en, hS, wO, nO, nW, la, lb, nl, fl, eo, so, ne, io, td, tf, tb, vA, cH, mK, cA, sK) p := by
  unfold wpX_isSignal
  rcases ix_no (by omega) hn with z | ⟨z1, z2⟩
  · exact br_t z k
  · exact br_f z1 (br_t (by rw [h]; exact z2) k)
theorem sx_wide1 {post : Int32 → Prop} {N j : Nat} {w : Int32} (hN : N ≤ 24) (h : sN = nI N) (hj : j < N) (hw : wd j = w) (k : post 1) : wpX_isWide post (sN, sC, sW, pP, pD, pE, nc, tc, lV, bU, pL, wH, sE, kd, ox, oy, oz, wd, fo, su, rd, dp, nx, en, hS, wO, nO, nW, la, lb, nl, fl, eo, so, ne, io, td, tf, tb, vA, cH, mK, cA, sK) (nI j) w := by
  unfold wpX_isWide
  refine sx_sig1 hN h hj (br_f (by decide) ⟨vp_in_nI (by omega) (by omega), br_t ?_ k⟩)
  rw [nI_clamp (by omega)]; exact hw
theorem sx_wide0 {post : Int32 → Prop} {N : Nat} {p w : Int32} (hN : N ≤ 24) (h : sN = nI N) (hn : ¬ ∃ j, j < N ∧ p = nI j ∧ wd j = w) (k : post 0) : wpX_isWide post (sN, sC, sW, pP, pD, pE, nc, tc, lV, bU, pL, wH, sE, kd, ox, oy, oz, wd, fo, su, rd, dp, nx, en, hS, wO, nO, nW, la, lb, nl, fl, eo, so, ne, io, td, tf, tb, vA, cH, mK, cA, sK) p w := by
  unfold wpX_isWide
  by_cases q : ∃ j, j < N ∧ p = nI j
  · obtain ⟨j, j1, rfl⟩ := q
    refine sx_sig1 hN h j1 (br_f (by decide) ⟨vp_in_nI (by omega) (by omega), br_f ?_ k⟩)
    rw [nI_clamp (by omega)]
    exact fun e => hn ⟨j, j1, rfl, e⟩
  · exact sx_sig0 hN h q (br_t rfl k)
theorem sx_fit {post : Int32 → Prop} {j W : Nat} {x : Int32} (hj : j < 24) (hw : wd j = nI W) (hW : W ≤ 6) (k1 : ∀ m, m < 2 ^ W → x = nI m → post 1) (k0 : (¬ ∃ m, m < 2 ^ W ∧ x = nI m) → post 0) : wpX_fitsInto post (sN, sC, sW, pP, pD, pE, nc, tc, lV, bU, pL, wH, sE, kd, ox, oy, oz, wd, fo, su, rd, dp, nx, en, hS, wO, nO, nW, la, lb, nl, fl, eo, so, ne, io, td, tf, tb, vA, cH, mK, cA, sK) (nI j) x := by
  have h2 : (2 : Nat) ^ W ≤ 2 ^ 6 := Nat.pow_le_pow_right (by decide) hW
  have e : (1 : Int32) <<< (wd (nI j).toNatClampNeg &&& 31) = nI (2 ^ W) := by
    rw [nI_clamp (by omega), hw, show (1 : Int32) <<< (nI W &&& 31) = nI (1 * 2 ^ W) from pk_shlN (n := 1) (nI W &&& 31) W (s_l W (by omega)) (by omega), Nat.one_mul]
  unfold wpX_fitsInto
  by_cases q : ∃ m, m < 2 ^ W ∧ x = nI m
  · obtain ⟨m, m1, rfl⟩ := q
    exact br_f (nI_pos (by omega)) ⟨vp_in_nI hj (by omega), br_f (by rw [e]; exact nI_ge m1 (by omega)) (k1 m m1 rfl)⟩
  · rcases ix_no (by omega) q with z | ⟨z1, z2⟩
    · exact br_t z (k0 q)
    · exact br_f z1 ⟨vp_in_nI hj (by omega), br_t (by rw [e]; exact z2) (k0 q)⟩
end
section
variable {yn yc yh yp yd yw : Int32} {ki eX eY eZ wi sT nT fR vL nX eN mE nM tR mT : Nat → Int32}
theorem sy_sig1 {post : Int32 → Prop} {N j : Nat} (hN : N ≤ 24) (h : yn = nI N) (hj : j < N) (k : post 1) : wpY_isSignal post (yn, yc, yh, yp, yd, yw, ki, eX, eY, eZ, wi, sT, nT, fR, vL, nX, eN, mE, nM, tR, mT) (nI j) := by
  unfold wpY_isSignal
  exact br_f (nI_pos (by omega)) (br_f (by rw [h]; exact nI_ge hj (by omega)) k)
theorem sy_sig0 {post : Int32 → Prop} {N : Nat} {p : Int32} (hN : N ≤ 24) (h : yn = nI N) (hn : ¬ ∃ j, j < N ∧ p = nI j) (k : post 0) : wpY_isSignal post (yn, yc, yh, yp, yd, yw, ki, eX, eY, eZ, wi, sT, nT, fR, vL, nX, eN, mE, nM, tR, mT) p := by
  unfold wpY_isSignal
  rcases ix_no (by omega) hn with z | ⟨z1, z2⟩
  · exact br_t z k
  · exact br_f z1 (br_t (by rw [h]; exact z2) k)
theorem sy_wide1 {post : Int32 → Prop} {N j : Nat} {w : Int32} (hN : N ≤ 24) (h : yn = nI N) (hj : j < N) (hw : wi j = w) (k : post 1) : wpY_isWide post (yn, yc, yh, yp, yd, yw, ki, eX, eY, eZ, wi, sT, nT, fR, vL, nX, eN, mE, nM, tR, mT) (nI j) w := by
  unfold wpY_isWide
  refine sy_sig1 hN h hj (br_f (by decide) ⟨vp_in_nI (by omega) (by omega), br_t ?_ k⟩)
  rw [nI_clamp (by omega)]; exact hw
theorem sy_wide0 {post : Int32 → Prop} {N : Nat} {p w : Int32} (hN : N ≤ 24) (h : yn = nI N) (hn : ¬ ∃ j, j < N ∧ p = nI j ∧ wi j = w) (k : post 0) : wpY_isWide post (yn, yc, yh, yp, yd, yw, ki, eX, eY, eZ, wi, sT, nT, fR, vL, nX, eN, mE, nM, tR, mT) p w := by
  unfold wpY_isWide
  by_cases q : ∃ j, j < N ∧ p = nI j
  · obtain ⟨j, j1, rfl⟩ := q
    refine sy_sig1 hN h j1 (br_f (by decide) ⟨vp_in_nI (by omega) (by omega), br_f ?_ k⟩)
    rw [nI_clamp (by omega)]
    exact fun e => hn ⟨j, j1, rfl, e⟩
  · exact sy_sig0 hN h q (br_t rfl k)
theorem sy_alike1 {post : Int32 → Prop} {N i j : Nat} (hN : N ≤ 24) (h : yn = nI N) (hi : i < N) (hj : j < N) (hw : wi i = wi j) (k : post 1) : wpY_alike post (yn, yc, yh, yp, yd, yw, ki, eX, eY, eZ, wi, sT, nT, fR, vL, nX, eN, mE, nM, tR, mT) (nI i) (nI j) := by
  unfold wpY_alike
  refine sy_sig1 hN h hi (br_f (by decide) (sy_sig1 hN h hj (br_f (by decide) ⟨vp_in_nI (by omega) (by omega), vp_in_nI (by omega) (by omega), br_t ?_ k⟩)))
  rw [nI_clamp (by omega), nI_clamp (by omega)]; exact hw
theorem sy_alike0 {post : Int32 → Prop} {N : Nat} {p q : Int32} (hN : N ≤ 24) (h : yn = nI N) (hn : ¬ ∃ i j, i < N ∧ j < N ∧ p = nI i ∧ q = nI j ∧ wi i = wi j) (k : post 0) : wpY_alike post (yn, yc, yh, yp, yd, yw, ki, eX, eY, eZ, wi, sT, nT, fR, vL, nX, eN, mE, nM, tR, mT) p q := by
  unfold wpY_alike
  by_cases z : ∃ j, j < N ∧ p = nI j
  · obtain ⟨i, i1, rfl⟩ := z
    refine sy_sig1 hN h i1 (br_f (by decide) ?_)
    by_cases y : ∃ j, j < N ∧ q = nI j
    · obtain ⟨j, j1, rfl⟩ := y
      refine sy_sig1 hN h j1 (br_f (by decide) ⟨vp_in_nI (by omega) (by omega), vp_in_nI (by omega) (by omega), br_f ?_ k⟩)
      rw [nI_clamp (by omega), nI_clamp (by omega)]
      exact fun e => hn ⟨i, j, i1, j1, rfl, rfl, e⟩
    · exact sy_sig0 hN h y (br_t rfl k)
  · exact sy_sig0 hN h z (br_t rfl k)
theorem sy_range {post : Int32 → Prop} {W : Nat} {x : Int32} (hW1 : 1 ≤ W) (hW : W ≤ 6) (k1 : ∀ m, m < 2 ^ W → x = nI m → post 1) (k0 : (¬ ∃ m, m < 2 ^ W ∧ x = nI m) → post 0) : wpY_inRange post (yn, yc, yh, yp, yd, yw, ki, eX, eY, eZ, wi, sT, nT, fR, vL, nX, eN, mE, nM, tR, mT) x (nI W) := by
  have h2 : (2 : Nat) ^ W ≤ 2 ^ 6 := Nat.pow_le_pow_right (by decide) hW
  have e7 : nI W &&& 7 = nI W := by
    rw [show nI W &&& 7 = nI (W % 8) from pk_andN (by omega) 3 (by decide), Nat.mod_eq_of_lt (by omega)]
  have e : (1 : Int32) <<< ((nI W &&& 7) &&& 31) = nI (2 ^ W) := by
    rw [e7, show (1 : Int32) <<< (nI W &&& 31) = nI (1 * 2 ^ W) from pk_shlN (n := 1) (nI W &&& 31) W (s_l W (by omega)) (by omega), Nat.one_mul]
  unfold wpY_inRange
  refine br_f (nI_nlt (b := 1) hW1 (by omega)) (br_f (nI_nlt (a := 6) hW (by omega)) ?_)
  by_cases q : ∃ m, m < 2 ^ W ∧ x = nI m
  · obtain ⟨m, m1, rfl⟩ := q
    exact br_f (nI_pos (by omega)) (br_f (by rw [e]; exact nI_ge m1 (by omega)) (k1 m m1 rfl))
  · rcases ix_no (by omega) q with z | ⟨z1, z2⟩
    · exact br_t z (k0 q)
    · exact br_f z1 (br_t (by rw [e]; exact z2) (k0 q))
end
theorem i_vc_word {k : Nat} {u : SX} {v : SY} (I : i_Rel k u v) (hk : k + 5 ≤ 2560) (v1 : Int32) : wpX_word (fun r => wpY_word (fun r' => r' = r ∧ i_Rel (k + 5) u v) v v1) u v1 := by
  refine zz_el (P := fun u v => wpX_word (fun r => wpY_word (fun r' => r' = r ∧ i_Rel (k + 5) u v) v v1) u v1) ?_ I
  intro N sN sC sW pP pD pE nc tc lV bU pL wH sE yd yw kd ox oy oz wd fo su rd dp nx en hS wO nO nW la lb nl fl eo so ne io td tf tb vL tR mT vA cH mK cA sK h
  unfold wpX_word wpY_word
  by_cases q : ∃ j, j < 4 ∧ v1 = nI j
  · obtain ⟨j, j1, rfl⟩ := q
    have a : ¬ nI j < 0 := nI_pos (by omega)
    have b : vp_in (nI j) 4 := vp_in_nI j1 (by omega)
    exact br_f a (br_t (nI_le (b := 3) (by omega) (by omega)) ⟨b, br_f a (br_f (nI_nlt (a := 3) (by omega) (by omega)) ⟨b, rfl, zz_mk h⟩)⟩)
  · rcases ix_no (by omega) q with z | ⟨z1, z2⟩
    · exact br_t z (br_t z ⟨rfl, zz_mk h⟩)
    · have l3 : (3 : Int32) < v1 := Int32.lt_of_lt_of_le (by decide : (3 : Int32) < nI 4) z2
      exact br_f z1 (br_f (Int32.not_le.mpr l3) (br_f z1 (br_t l3 ⟨rfl, zz_mk h⟩)))
theorem i_vc_level {k : Nat} {u : SX} {v : SY} (I : i_Rel k u v) (hk : k + 5 ≤ 2560) (v1 : Int32) : wpX_level (fun r u' => wpY_level (fun r' => r' = r ∧ i_Rel (k + 5) u' v) v v1) u v1 := by
  refine zz_el (P := fun u v => wpX_level (fun r u' => wpY_level (fun r' => r' = r ∧ i_Rel (k + 5) u' v) v v1) u v1) ?_ I
  intro N sN sC sW pP pD pE nc tc lV bU pL wH sE yd yw kd ox oy oz wd fo su rd dp nx en hS wO nO nW la lb nl fl eo so ne io td tf tb vL tR mT vA cH mK cA sK h
  obtain ⟨h1, h2, h3, h4, h5, h6⟩ := h
  unfold wpX_level
  by_cases q : ∃ j, j < 3 ∧ v1 = nI j
  · obtain ⟨j, j1, rfl⟩ := q
    have a : ¬ nI j < 0 := nI_pos (by omega)
    have a2 : nI j ≤ 2 := nI_le (b := 2) (by omega) (by omega)
    have b2 : ¬ (2 : Int32) < nI j := nI_nlt (a := 2) (by omega) (by omega)
    have lv' : nI j = 0 ∨ nI j = 1 ∨ nI j = 2 := by
      rcases (show j = 0 ∨ j = 1 ∨ j = 2 from by omega) with z | z | z <;> rw [z]
      · exact Or.inl rfl
      · exact Or.inr (Or.inl rfl)
      · exact Or.inr (Or.inr rfl)
    have yy : ∀ u', i_Rel (k + 5) u' (sN, sC, sW, pP, yd, yw, kd, ox, oy, oz, wd, hS, nO, fo, vL, nx, en, wO, nW, tR, mT) → wpY_level (fun r' => r' = 1 ∧ i_Rel (k + 5) u' (sN, sC, sW, pP, yd, yw, kd, ox, oy, oz, wd, hS, nO, fo, vL, nx, en, wO, nW, tR, mT)) (sN, sC, sW, pP, yd, yw, kd, ox, oy, oz, wd, hS, nO, fo, vL, nx, en, wO, nW, tR, mT) (nI j) := by
      intro u' hu
      unfold wpY_level
      exact br_f a (br_f b2 ⟨rfl, hu⟩)
    refine br_f a (br_t a2 (br_c (fun e => ?_) (fun e => ?_)))
    · exact yy _ (zz_mk ⟨h1, h2, h3, ⟨lv', h4.2⟩, fun b p => by rw [e]; exact h5 b p, h6⟩)
    · exact yy _ (zz_mk ⟨h1, h2, h3, ⟨lv', Or.inl rfl, h4.2.2⟩, fun b => absurd b (by decide), h6⟩)
  · have yy : wpY_level (fun r' => r' = 0 ∧ i_Rel (k + 5) (sN, sC, sW, pP, pD, pE, nc, tc, lV, bU, pL, wH, sE, kd, ox, oy, oz, wd, fo, su, rd, dp, nx, en, hS, wO, nO, nW, la, lb, nl, fl, eo, so, ne, io, td, tf, tb, vA, cH, mK, cA, sK) (sN, sC, sW, pP, yd, yw, kd, ox, oy, oz, wd, hS, nO, fo, vL, nx, en, wO, nW, tR, mT)) (sN, sC, sW, pP, yd, yw, kd, ox, oy, oz, wd, hS, nO, fo, vL, nx, en, wO, nW, tR, mT) v1 := by
      unfold wpY_level
      rcases ix_no (by omega) q with z | ⟨z1, z2⟩
      · exact br_t z ⟨rfl, zz_mk ⟨h1, h2, h3, h4, h5, h6⟩⟩
      · have l3 : (2 : Int32) < v1 := Int32.lt_of_lt_of_le (by decide : (2 : Int32) < nI 3) z2
        exact br_f z1 (br_t l3 ⟨rfl, zz_mk ⟨h1, h2, h3, h4, h5, h6⟩⟩)
    rcases ix_no (by omega) q with z | ⟨z1, z2⟩
    · exact br_t z yy
    · have l3 : (2 : Int32) < v1 := Int32.lt_of_lt_of_le (by decide : (2 : Int32) < nI 3) z2
      exact br_f z1 (br_f (Int32.not_le.mpr l3) yy)
end
section
/-! connect, port, drive, force -/
theorem bi_ch {N : Nat} {kd ox oy oz wd fo nx en hS wO nO nW hS' wO' nO' nW' : Nat → Int32} {pP pD pE tc lV sE sE' : Int32} {c : ga_C} {eo so ne io tf tb : Nat → Int32} {vA sK : Nat → Int64}
    (h : bi_ok N kd ox oy oz wd fo nx en hS wO nO nW pP pD pE tc lV sE c eo so ne io tf tb vA sK)
    (h1 : ∀ b, b < 160 → s2_b N kd wd b → sv_b hS wO b = fv_b oy b → sv_b nO nW b = fv_b oy b → sv_b hS' wO' b = fv_b oy b ∧ sv_b nO' nW' b = fv_b oy b) (h2 : sE' ≠ 0 → sE ≠ 0 ∧ hS' = hS ∧ wO' = wO) :
    bi_ok N kd ox oy oz wd fo nx en hS' wO' nO' nW' pP pD pE tc lV sE' c eo so ne io tf tb vA sK := by
  obtain ⟨m, st, cl, tl, w, w1, w2, w3⟩ := h
  refine ⟨m, fun b hb s => ⟨(st b hb s).1, h1 b hb (st b hb s).1 (st b hb s).2.1 (st b hb s).2.2⟩, cl, tl, w, w1, w2, fun e => ?_⟩
  obtain ⟨e1, e2, e3⟩ := h2 e
  rw [e2, e3]
  exact w3 e1
theorem df_W {kd ox oy oz wd : Nat → Int32} {s : Nat} (h : df_s kd ox oy oz wd s) {m : Nat} (hm : m < 2 ^ cl_n wd s) : m < 64 := by
  have h2 : (2 : Nat) ^ cl_n wd s ≤ 2 ^ 6 := Nat.pow_le_pow_right (by decide) h.2.2.2.2.1
  omega
theorem i_vc_connect {k : Nat} {u : SX} {v : SY} (I : i_Rel k u v) (hk : k + 5 ≤ 2560) (v1 : Int32) (v2 : Int32) (v3 : Int32) : wpX_connect (fun r u' => wpY_connect (fun r' v' => r' = r ∧ i_Rel (k + 5) u' v') v v1 v2 v3) u v1 v2 v3 := by
  refine zz_el (P := fun u v => wpX_connect (fun r u' => wpY_connect (fun r' v' => r' = r ∧ i_Rel (k + 5) u' v') v v1 v2 v3) u v1 v2 v3) ?_ I
  intro N sN sC sW pP pD pE nc tc lV bU pL wH sE yd yw kd ox oy oz wd fo su rd dp nx en hS wO nO nW la lb nl fl eo so ne io td tf tb vL tR mT vA cH mK cA sK h
  have h' := h
  obtain ⟨⟨a1, a2, a3, a4, a5, a6, a7⟩, h2, h3, h4, h5, h6⟩ := h'
  have rel : i_Rel (k + 5) (sN, sC, sW, pP, pD, pE, nc, tc, lV, bU, pL, wH, sE, kd, ox, oy, oz, wd, fo, su, rd, dp, nx, en, hS, wO, nO, nW, la, lb, nl, fl, eo, so, ne, io, td, tf, tb, vA, cH, mK, cA, sK) (sN, sC, sW, pP, yd, yw, kd, ox, oy, oz, wd, hS, nO, fo, vL, nx, en, wO, nW, tR, mT) := zz_mk h
  unfold wpX_connect
  by_cases hr : ∃ j, j < N ∧ v1 = nI j
  · obtain ⟨r, r1, rfl⟩ := hr
    have rin : vp_in (nI r) 24 := vp_in_nI (by omega) (by omega)
    have rc : (nI r).toNatClampNeg = r := nI_clamp (by omega)
    have dr := a3 r r1
    refine sx_sig1 a2 a1 r1 (br_f (by decide) ⟨rin, ?_⟩)
    rw [rc]
    by_cases hk2 : kd r = 2
    · refine br_t hk2 ⟨rin, ?_⟩
      by_cases hn : ∃ j, j < N ∧ v2 = nI j ∧ wd j = wd r
      · obtain ⟨t, t1, rfl, t2⟩ := hn
        refine sx_wide1 a2 a1 t1 t2 (br_f (by decide) ?_)
        have good : (v3 = -1 ∨ ∃ e, e < N ∧ v3 = nI e ∧ wd e = 1) → wX_connect_50 (fun r' u' => wpY_connect (fun r'' v' => r'' = r' ∧ i_Rel (k + 5) u' v') (sN, sC, sW, pP, yd, yw, kd, ox, oy, oz, wd, hS, nO, fo, vL, nx, en, wO, nW, tR, mT) (nI r) (nI t) v3) (nI r) (nI t) v3 sN sC sW pP pD pE nc tc lV bU pL wH sE kd ox oy oz wd fo su rd dp nx en hS wO nO nW la lb nl fl eo so ne io td tf tb vA cH mK cA sK := by
          intro hv3
          have v3n : vp_nar .byte v3.toInt8.toInt32 = v3 := by
            rcases hv3 with z | ⟨e, e1, rfl, e2⟩
            · rw [z]; exact nr_bm'
            · exact nr_b (by omega)
          unfold wX_connect_50
          refine ⟨rin, ?_⟩
          intro nx' enx
          refine ⟨rin, ?_⟩
          intro en' een
          rw [rc, nr_b (by omega)] at enx
          rw [rc, v3n] at een
          subst enx een
          have fin : i_Rel (k + 5) (sN, sC, sW, pP, pD, pE, nc, tc, lV, 0, pL, wH, sE, kd, ox, oy, oz, wd, fo, su, rd, dp, upd nx r (nI t), upd en r v3, hS, wO, nO, nW, la, lb, nl, fl, eo, so, ne, io, td, tf, tb, vA, cH, mK, cA, sK) (sN, sC, sW, pP, yd, yw, kd, ox, oy, oz, wd, hS, nO, fo, vL, upd nx r (nI t), upd en r v3, wO, nW, tR, mT) := by
            refine zz_mk ⟨⟨a1, a2, a3, a4, fun s hs ks => ?_, a6, a7⟩, h2, h3, ⟨h4.1, Or.inl rfl, h4.2.2⟩, fun b => absurd b (by decide), h6⟩
            by_cases e : s = r
            · rw [e, pk_us, pk_us]
              refine ⟨Or.inr ⟨t, rfl, t1, congrArg Int32.toNatClampNeg t2⟩, ?_⟩
              rcases hv3 with z | ⟨e, e1, e2, e3⟩
              · exact Or.inl z
              · exact Or.inr ⟨e, e2, e1, congrArg Int32.toNatClampNeg e3⟩
            · rw [pk_un e, pk_un e]
              exact a5 s hs ks
          have y43 : wY_connect_43 (fun r'' v' => r'' = 1 ∧ i_Rel (k + 5) (sN, sC, sW, pP, pD, pE, nc, tc, lV, 0, pL, wH, sE, kd, ox, oy, oz, wd, fo, su, rd, dp, upd nx r (nI t), upd en r v3, hS, wO, nO, nW, la, lb, nl, fl, eo, so, ne, io, td, tf, tb, vA, cH, mK, cA, sK) v') (nI r) (nI t) v3 sN sC sW pP yd yw kd ox oy oz wd hS nO fo vL nx en wO nW tR mT := by
            unfold wY_connect_43
            refine ⟨rin, ?_⟩
            intro n' en1
            refine ⟨rin, ?_⟩
            intro e' ee1
            rw [rc] at en1 ee1
            subst en1 ee1
            exact ⟨rfl, fin⟩
          unfold wpY_connect
          refine sy_sig1 a2 a1 r1 (br_f (by decide) ⟨rin, ?_⟩)
          rw [rc]
          refine br_t hk2 (sy_alike1 a2 a1 r1 t1 t2.symm (br_f (by decide) ?_))
          rcases hv3 with z | ⟨e, e1, e2, e3⟩
          · exact br_t z y43
          · refine br_f (by rw [e2]; exact nr_ne (by omega)) ?_
            rw [e2]
            rw [e2] at y43
            exact sy_wide1 a2 a1 e1 e3 (br_f (by decide) y43)
        by_cases he : v3 = -1
        · exact br_t he (good (Or.inl he))
        · refine br_f he ?_
          by_cases hw : ∃ e, e < N ∧ v3 = nI e ∧ wd e = 1
          · have g := good (Or.inr hw)
            obtain ⟨e, e1, e2, e3⟩ := hw
            rw [e2]
            rw [e2] at g
            exact sx_wide1 a2 a1 e1 e3 (br_f (by decide) g)
          · refine sx_wide0 a2 a1 hw (br_t rfl ?_)
            unfold wpY_connect
            refine sy_sig1 a2 a1 r1 (br_f (by decide) ⟨rin, ?_⟩)
            rw [rc]
            exact br_t hk2 (sy_alike1 a2 a1 r1 t1 t2.symm (br_f (by decide) (br_f he (sy_wide0 a2 a1 hw (br_t rfl ⟨rfl, rel⟩)))))
      · refine sx_wide0 a2 a1 hn (br_t rfl ?_)
        unfold wpY_connect
        refine sy_sig1 a2 a1 r1 (br_f (by decide) ⟨rin, ?_⟩)
        rw [rc]
        refine br_t hk2 (sy_alike0 a2 a1 ?_ (br_t rfl ⟨rfl, rel⟩))
        rintro ⟨i, j, i1, j1, e1, e2, e3⟩
        rw [nI_eq (by omega) (by omega)] at e1
        subst e1
        exact hn ⟨j, j1, e2, e3.symm⟩
    · refine br_f hk2 ?_
      unfold wpY_connect
      refine sy_sig1 a2 a1 r1 (br_f (by decide) ⟨rin, ?_⟩)
      rw [rc]
      exact br_f hk2 ⟨rfl, rel⟩
  · refine sx_sig0 a2 a1 hr (br_t rfl ?_)
    unfold wpY_connect
    exact sy_sig0 a2 a1 hr (br_t rfl ⟨rfl, rel⟩)
theorem i_vc_port {k : Nat} {u : SX} {v : SY} (I : i_Rel k u v) (hk : k + 5 ≤ 2560) (v1 : Int32) (v2 : Int32) (v3 : Int32) : wpX_port (fun r u' => wpY_port (fun r' v' => r' = r ∧ i_Rel (k + 5) u' v') v v1 v2 v3) u v1 v2 v3 := by
  refine zz_el (P := fun u v => wpX_port (fun r u' => wpY_port (fun r' v' => r' = r ∧ i_Rel (k + 5) u' v') v v1 v2 v3) u v1 v2 v3) ?_ I
  intro N sN sC sW pP pD pE nc tc lV bU pL wH sE yd yw kd ox oy oz wd fo su rd dp nx en hS wO nO nW la lb nl fl eo so ne io td tf tb vL tR mT vA cH mK cA sK h
  have h' := h
  obtain ⟨⟨a1, a2, a3, a4, a5, a6, a7⟩, h2, h3, h4, h5, h6⟩ := h'
  have rel : i_Rel (k + 5) (sN, sC, sW, pP, pD, pE, nc, tc, lV, bU, pL, wH, sE, kd, ox, oy, oz, wd, fo, su, rd, dp, nx, en, hS, wO, nO, nW, la, lb, nl, fl, eo, so, ne, io, td, tf, tb, vA, cH, mK, cA, sK) (sN, sC, sW, pP, yd, yw, kd, ox, oy, oz, wd, hS, nO, fo, vL, nx, en, wO, nW, tR, mT) := zz_mk h
  unfold wpX_port
  by_cases b1 : ∃ j, j < N ∧ v1 = nI j ∧ wd j = 2
  · obtain ⟨p, p1, rfl, p2⟩ := b1
    refine sx_wide1 a2 a1 p1 p2 (br_f (by decide) ?_)
    by_cases b2 : ∃ j, j < N ∧ v2 = nI j ∧ wd j = 4
    · obtain ⟨d, d1, rfl, d2⟩ := b2
      refine sx_wide1 a2 a1 d1 d2 (br_f (by decide) ?_)
      by_cases b3 : ∃ j, j < N ∧ v3 = nI j ∧ wd j = 1
      · obtain ⟨e, e1, rfl, e2⟩ := b3
        refine sx_wide1 a2 a1 e1 e2 (br_f (by decide) ?_)
        unfold wpY_port
        refine sy_wide1 a2 a1 p1 p2 (br_f (by decide) (sy_wide1 a2 a1 d1 d2 (br_f (by decide) (sy_wide1 a2 a1 e1 e2 (br_f (by decide) ⟨rfl, ?_⟩)))))
        exact zz_mk ⟨⟨a1, a2, a3, a4, a5, Or.inr ⟨p, d, e, rfl, rfl, rfl, p1, d1, e1, congrArg Int32.toNatClampNeg p2, congrArg Int32.toNatClampNeg d2, congrArg Int32.toNatClampNeg e2⟩, a7⟩, h2, h3, ⟨h4.1, Or.inl rfl, h4.2.2⟩, fun b => absurd b (by decide), Or.inr ⟨rfl, rfl⟩⟩
      · refine sx_wide0 a2 a1 b3 (br_t rfl ?_)
        unfold wpY_port
        exact sy_wide1 a2 a1 p1 p2 (br_f (by decide) (sy_wide1 a2 a1 d1 d2 (br_f (by decide) (sy_wide0 a2 a1 b3 (br_t rfl ⟨rfl, rel⟩)))))
    · refine sx_wide0 a2 a1 b2 (br_t rfl ?_)
      unfold wpY_port
      exact sy_wide1 a2 a1 p1 p2 (br_f (by decide) (sy_wide0 a2 a1 b2 (br_t rfl ⟨rfl, rel⟩)))
  · refine sx_wide0 a2 a1 b1 (br_t rfl ?_)
    unfold wpY_port
    exact sy_wide0 a2 a1 b1 (br_t rfl ⟨rfl, rel⟩)
theorem i_vc_drive {k : Nat} {u : SX} {v : SY} (I : i_Rel k u v) (hk : k + 5 ≤ 2560) (v1 : Int32) (v2 : Int32) : wpX_drive (fun r u' => wpY_drive (fun r' v' => r' = r ∧ i_Rel (k + 5) u' v') v v1 v2) u v1 v2 := by
  refine zz_el (P := fun u v => wpX_drive (fun r u' => wpY_drive (fun r' v' => r' = r ∧ i_Rel (k + 5) u' v') v v1 v2) u v1 v2) ?_ I
  intro N sN sC sW pP pD pE nc tc lV bU pL wH sE yd yw kd ox oy oz wd fo su rd dp nx en hS wO nO nW la lb nl fl eo so ne io td tf tb vL tR mT vA cH mK cA sK h
  have h' := h
  obtain ⟨⟨a1, a2, a3, a4, a5, a6, a7⟩, h2, h3, h4, h5, h6⟩ := h'
  have rel : i_Rel (k + 5) (sN, sC, sW, pP, pD, pE, nc, tc, lV, bU, pL, wH, sE, kd, ox, oy, oz, wd, fo, su, rd, dp, nx, en, hS, wO, nO, nW, la, lb, nl, fl, eo, so, ne, io, td, tf, tb, vA, cH, mK, cA, sK) (sN, sC, sW, pP, yd, yw, kd, ox, oy, oz, wd, hS, nO, fo, vL, nx, en, wO, nW, tR, mT) := zz_mk h
  unfold wpX_drive
  by_cases hr : ∃ j, j < N ∧ v1 = nI j
  · obtain ⟨r, r1, rfl⟩ := hr
    have rin : vp_in (nI r) 24 := vp_in_nI (by omega) (by omega)
    have rc : (nI r).toNatClampNeg = r := nI_clamp (by omega)
    have dr := a3 r r1
    refine sx_sig1 a2 a1 r1 (br_f (by decide) ⟨rin, ?_⟩)
    rw [rc]
    by_cases hk2 : kd r = 0
    · refine br_t hk2 (sx_fit (by omega) dr.2.2.1 dr.2.2.2.2.1 (fun m m1 em => br_f (by decide) ⟨rin, ?_⟩) (fun hn => br_t rfl ?_))
      · subst em
        have m6 := df_W dr m1
        intro hS' eh
        rw [nr_b (by omega)] at eh
        subst eh
        have fin : i_Rel (k + 5) (sN, sC, sW, pP, pD, pE, nc, tc, lV, bU, pL, wH, 0, kd, ox, oy, oz, wd, fo, su, rd, dp, nx, en, upd hS r (nI m), wO, nO, nW, la, lb, nl, fl, eo, so, ne, io, td, tf, tb, vA, cH, mK, cA, sK) (sN, sC, sW, pP, yd, yw, kd, ox, oy, oz, wd, upd hS r (nI m), nO, fo, vL, nx, en, wO, nW, tR, mT) := by
          refine zz_mk ⟨⟨a1, a2, a3, a4, a5, a6, a7⟩, ⟨fun s hs => ?_, h2.2⟩, h3, ⟨h4.1, h4.2.1, h4.2.2.1, Or.inl rfl, h4.2.2.2.2⟩, fun b p => ⟨(h5 b p).1, bi_ch (h5 b p).2 (fun b hb s2 e1 e2 => ⟨?_, e2⟩) (fun z => absurd rfl z)⟩, h6⟩
          · by_cases e : s = r
            · rw [e]
              have c1 : cl_n (upd hS r (nI m)) r = m := by
                show (upd hS r (nI m) r).toNatClampNeg = m
                rw [pk_us]; exact nI_clamp (by omega)
              rw [c1, pk_us]
              exact ⟨rfl, m6, fun _ => m1⟩
            · have c1 : cl_n (upd hS r (nI m)) s = cl_n hS s := by
                show (upd hS r (nI m) s).toNatClampNeg = _
                rw [pk_un e]
              rw [c1, pk_un e]
              exact h2.1 s hs
          · rw [← e1]
            unfold sv_b
            by_cases q : b < 144
            · rw [if_pos q, if_pos q]
              rcases s2 with z | ⟨z1, z2, z3⟩
              · omega
              · have e : b / 6 ≠ r := fun e => by rw [e, hk2] at z3; exact absurd z3 (by decide)
                rw [pk_un e]
            · rw [if_neg q, if_neg q]
        unfold wpY_drive
        refine sy_sig1 a2 a1 r1 (br_f (by decide) ⟨rin, ?_⟩)
        rw [rc]
        refine br_t hk2 ⟨rin, ?_⟩
        rw [dr.2.2.1]
        refine sy_range dr.2.2.2.1 dr.2.2.2.2.1 (fun m' m1' em' => br_f (by decide) ⟨rin, ?_⟩) (fun hn => absurd ⟨m, m1, rfl⟩ hn)
        intro s' es
        subst es
        exact ⟨rfl, fin⟩
      · unfold wpY_drive
        refine sy_sig1 a2 a1 r1 (br_f (by decide) ⟨rin, ?_⟩)
        rw [rc]
        refine br_t hk2 ⟨rin, ?_⟩
        rw [dr.2.2.1]
        exact sy_range dr.2.2.2.1 dr.2.2.2.2.1 (fun m' m1' em' => absurd ⟨m', m1', em'⟩ hn) (fun _ => br_t rfl ⟨rfl, rel⟩)
    · refine br_f hk2 ?_
      unfold wpY_drive
      refine sy_sig1 a2 a1 r1 (br_f (by decide) ⟨rin, ?_⟩)
      rw [rc]
      exact br_f hk2 ⟨rfl, rel⟩
  · refine sx_sig0 a2 a1 hr (br_t rfl ?_)
    unfold wpY_drive
    exact sy_sig0 a2 a1 hr (br_t rfl ⟨rfl, rel⟩)
theorem i_vc_force {k : Nat} {u : SX} {v : SY} (I : i_Rel k u v) (hk : k + 5 ≤ 2560) (v1 : Int32) (v2 : Int32) : wpX_force (fun r u' => wpY_force (fun r' v' => r' = r ∧ i_Rel (k + 5) u' v') v v1 v2) u v1 v2 := by
  refine zz_el (P := fun u v => wpX_force (fun r u' => wpY_force (fun r' v' => r' = r ∧ i_Rel (k + 5) u' v') v v1 v2) u v1 v2) ?_ I
  intro N sN sC sW pP pD pE nc tc lV bU pL wH sE yd yw kd ox oy oz wd fo su rd dp nx en hS wO nO nW la lb nl fl eo so ne io td tf tb vL tR mT vA cH mK cA sK h
  have h' := h
  obtain ⟨⟨a1, a2, a3, a4, a5, a6, a7⟩, h2, h3, h4, h5, h6⟩ := h'
  have rel : i_Rel (k + 5) (sN, sC, sW, pP, pD, pE, nc, tc, lV, bU, pL, wH, sE, kd, ox, oy, oz, wd, fo, su, rd, dp, nx, en, hS, wO, nO, nW, la, lb, nl, fl, eo, so, ne, io, td, tf, tb, vA, cH, mK, cA, sK) (sN, sC, sW, pP, yd, yw, kd, ox, oy, oz, wd, hS, nO, fo, vL, nx, en, wO, nW, tR, mT) := zz_mk h
  unfold wpX_force
  by_cases hr : ∃ j, j < N ∧ v1 = nI j
  · obtain ⟨r, r1, rfl⟩ := hr
    have rin : vp_in (nI r) 24 := vp_in_nI (by omega) (by omega)
    have rc : (nI r).toNatClampNeg = r := nI_clamp (by omega)
    have dr := a3 r r1
    have fin : (v2 = -1 ∨ ∃ m, v2 = nI m ∧ m < 2 ^ cl_n wd r) → i_Rel (k + 5) (sN, sC, sW, pP, pD, pE, nc, tc, lV, 0, pL, wH, sE, kd, ox, oy, oz, wd, upd fo r v2, su, rd, dp, nx, en, hS, wO, nO, nW, la, lb, nl, fl, eo, so, ne, io, td, tf, tb, vA, cH, mK, cA, sK) (sN, sC, sW, pP, yd, yw, kd, ox, oy, oz, wd, hS, nO, upd fo r v2, vL, nx, en, wO, nW, tR, mT) := by
      intro hv
      refine zz_mk ⟨⟨a1, a2, a3, fun s hs => ?_, a5, a6, a7⟩, h2, h3, ⟨h4.1, Or.inl rfl, h4.2.2⟩, fun b => absurd b (by decide), h6⟩
      by_cases e : s = r
      · rw [e, pk_us]; exact hv
      · rw [pk_un e]; exact a4 s hs
    refine sx_sig1 a2 a1 r1 (br_f (by decide) (br_c (fun e => ?_) (fun e => ?_)))
    · unfold wX_force_24
      refine ⟨rin, ?_⟩
      intro fo' ef
      rw [rc, e, nr_bm'] at ef
      unfold wpY_force
      refine sy_sig1 a2 a1 r1 (br_f (by decide) (br_t e ⟨rin, ?_⟩))
      intro f2 ef2
      rw [rc, e] at ef2
      subst ef ef2
      have f := fin (Or.inl e)
      rw [e] at f
      exact ⟨rfl, f⟩
    · refine sx_fit (by omega) dr.2.2.1 dr.2.2.2.2.1 (fun m m1 em => br_f (by decide) ?_) (fun hn => br_t rfl ?_)
      · have m6 := df_W dr m1
        subst em
        unfold wX_force_24
        refine ⟨rin, ?_⟩
        intro fo' ef
        rw [rc, nr_b (by omega)] at ef
        unfold wpY_force
        refine sy_sig1 a2 a1 r1 (br_f (by decide) (br_f e ⟨rin, ?_⟩))
        rw [rc, dr.2.2.1]
        refine sy_range dr.2.2.2.1 dr.2.2.2.2.1 (fun m' m1' em' => br_f (by decide) ⟨rin, ?_⟩) (fun hn => absurd ⟨m, m1, rfl⟩ hn)
        intro f2 ef2
        subst ef ef2
        exact ⟨rfl, fin (Or.inr ⟨m, rfl, m1⟩)⟩
      · unfold wpY_force
        refine sy_sig1 a2 a1 r1 (br_f (by decide) (br_f e ⟨rin, ?_⟩))
        rw [rc, dr.2.2.1]
        exact sy_range dr.2.2.2.1 dr.2.2.2.2.1 (fun m' m1' em' => absurd ⟨m', m1', em'⟩ hn) (fun _ => br_t rfl ⟨rfl, rel⟩)
  · refine sx_sig0 a2 a1 hr (br_t rfl ?_)
    unfold wpY_force
    exact sy_sig0 a2 a1 hr (br_t rfl ⟨rfl, rel⟩)
end
section
/-! reset, keep, back -/
def ov_f (n : Nat) (kd a b : Nat → Int32) : Nat → Int32 := fun t => if t < n ∧ kd t = 2 then a t else b t
def ow_f (n : Nat) (a b : Nat → Int32) : Nat → Int32 := fun t => if t < n then a t else b t
theorem ov_0 (kd a b : Nat → Int32) : ov_f 0 kd a b = b := by
  funext t
  exact if_neg (by omega)
theorem ow_0 (a b : Nat → Int32) : ow_f 0 a b = b := by
  funext t
  exact if_neg (by omega)
theorem ov_s {n : Nat} {kd a b : Nat → Int32} (h : kd n = 2) : upd (ov_f n kd a b) n (a n) = ov_f (n + 1) kd a b := by
  funext t
  show (if t = n then a n else if t < n ∧ kd t = 2 then a t else b t) = (if t < n + 1 ∧ kd t = 2 then a t else b t)
  by_cases e : t = n
  · subst e
    rw [if_pos rfl, if_pos ⟨by omega, h⟩]
  · rw [if_neg e]
    by_cases q : t < n ∧ kd t = 2
    · rw [if_pos q, if_pos ⟨by omega, q.2⟩]
    · rw [if_neg q, if_neg (fun z => q ⟨by omega, z.2⟩)]
theorem ov_n {n : Nat} {kd a b : Nat → Int32} (h : ¬ kd n = 2) : ov_f n kd a b = ov_f (n + 1) kd a b := by
  funext t
  show (if t < n ∧ kd t = 2 then a t else b t) = (if t < n + 1 ∧ kd t = 2 then a t else b t)
  by_cases q : t < n ∧ kd t = 2
  · rw [if_pos q, if_pos ⟨by omega, q.2⟩]
  · rw [if_neg q, if_neg (fun z => q ⟨by
      have : t ≠ n := fun e => h (by rw [← e]; exact z.2)
      omega, z.2⟩)]
theorem ow_s {n : Nat} {a b : Nat → Int32} : upd (ow_f n a b) n (a n) = ow_f (n + 1) a b := by
  funext t
  show (if t = n then a n else if t < n then a t else b t) = (if t < n + 1 then a t else b t)
  by_cases e : t = n
  · subst e
    rw [if_pos rfl, if_pos (by omega)]
  · rw [if_neg e]
    by_cases q : t < n
    · rw [if_pos q, if_pos (by omega)]
    · rw [if_neg q, if_neg (by omega)]
section
variable {sN sC sW pP pD pE nc tc lV bU pL wH : Int32} {kd ox oy oz wd fo su rd dp nx en nO nW la lb nl fl eo so ne io td tf tb : Nat → Int32} {vA cH mK cA sK : Nat → Int64}
variable {hS : Nat → Int32} {sE : Int32}
theorem xr_41 {post : SX → Prop} {wO0 : Nat → Int32} (K : post (sN, sC, sW, pP, pD, pE, nc, tc, lV, bU, pL, wH, 0, kd, ox, oy, oz, wd, fo, su, rd, dp, nx, en, hS, ow_f 4 (fun _ => 0) wO0, nO, nW, la, lb, nl, fl, eo, so, ne, io, td, tf, tb, vA, cH, mK, cA, sK)) : ∀ (d i : Nat) (wO : Nat → Int32), 4 < d + i → i ≤ 4 → wO = ow_f i (fun _ => 0) wO0 → wX_reset_41 post sN sC sW pP pD pE nc tc lV bU pL wH sE d (nI i) kd ox oy oz wd fo su rd dp nx en hS wO nO nW la lb nl fl eo so ne io td tf tb vA cH mK cA sK := by
  intro d
  induction d with
  | zero => intro i wO h1 h2; omega
  | succ d ih =>
    intro i wO h1 h2 ea
    unfold wX_reset_41
    refine pk_le 4 i (fun hle => ?_) (fun hlt => ?_)
    · have e : i = 4 := by omega
      subst e ea
      exact K
    · have hin : vp_in (nI i) 4 := vp_in_nI (by omega) (by omega)
      refine ⟨hin, ?_⟩
      intro w' ew
      rw [nI_clamp (by omega), show vp_nar .byte (0 : Int32) = 0 from nr_b0 (a := 0) (by omega), ea] at ew
      have ew2 := ew.trans (ow_s (n := i) (a := (fun _ => 0)) (b := wO0))
      intro y hy
      have e2 := hy.trans (nI_1 i)
      subst e2
      exact ih (i + 1) w' (by omega) (by omega) ew2
theorem xb_40 {post : SX → Prop} {wO0 : Nat → Int32} (hw : ∀ p, p < 4 → ∃ m, nW p = nI m ∧ m < 16) (K : post (sN, sC, sW, pP, pD, pE, nc, tc, lV, bU, pL, wH, 0, kd, ox, oy, oz, wd, fo, su, rd, dp, nx, en, hS, ow_f 4 nW wO0, nO, nW, la, lb, nl, fl, eo, so, ne, io, td, tf, tb, vA, cH, mK, cA, sK)) : ∀ (d i : Nat) (wO : Nat → Int32), 4 < d + i → i ≤ 4 → wO = ow_f i nW wO0 → wX_back_40 post sN sC sW pP pD pE nc tc lV bU pL wH sE d (nI i) kd ox oy oz wd fo su rd dp nx en hS wO nO nW la lb nl fl eo so ne io td tf tb vA cH mK cA sK := by
  intro d
  induction d with
  | zero => intro i wO h1 h2; omega
  | succ d ih =>
    intro i wO h1 h2 ea
    unfold wX_back_40
    refine pk_le 4 i (fun hle => ?_) (fun hlt => ?_)
    · have e : i = 4 := by omega
      subst e ea
      exact K
    · have hin : vp_in (nI i) 4 := vp_in_nI (by omega) (by omega)
      obtain ⟨m, m1, m2⟩ := hw i hlt
      refine ⟨hin, hin, ?_⟩
      intro w' ew
      rw [nI_clamp (by omega), show vp_nar .byte (nW i) = nW i from by rw [m1]; exact nr_b0 (by omega), ea] at ew
      have ew2 := ew.trans (ow_s (n := i) (a := nW) (b := wO0))
      intro y hy
      have e2 := hy.trans (nI_1 i)
      subst e2
      exact ih (i + 1) w' (by omega) (by omega) ew2
end
section
variable {sN sC sW pP pD pE nc tc lV bU pL wH : Int32} {kd ox oy oz wd fo su rd dp nx en nO nW la lb nl fl eo so ne io td tf tb : Nat → Int32} {vA cH mK cA sK : Nat → Int64}
variable {sE : Int32}
theorem xr_2 {post : SX → Prop} {N : Nat} {hS0 wO : Nat → Int32} (hN : N ≤ 24) (h : sN = nI N) (ho : ∀ s, s < N → kd s = 2 → ∃ m, oy s = nI m ∧ m < 64) (K : post (sN, sC, sW, pP, pD, pE, nc, tc, lV, bU, pL, wH, 0, kd, ox, oy, oz, wd, fo, su, rd, dp, nx, en, ov_f N kd oy hS0, ow_f 4 (fun _ => 0) wO, nO, nW, la, lb, nl, fl, eo, so, ne, io, td, tf, tb, vA, cH, mK, cA, sK)) :
    ∀ (d i : Nat) (hS : Nat → Int32), N < d + i → i ≤ N → hS = ov_f i kd oy hS0 → wX_reset_2 post sN sC sW pP pD pE nc tc lV bU pL wH sE d (nI i) kd ox oy oz wd fo su rd dp nx en hS wO nO nW la lb nl fl eo so ne io td tf tb vA cH mK cA sK := by
  intro d
  induction d with
  | zero => intro i hS h1 h2; omega
  | succ d ih =>
    intro i hS h1 h2 ea
    unfold wX_reset_2
    refine pk_le N i (fun hle => ?_) (fun hlt => ?_) h
    · have e : i = N := by omega
      subst e ea
      exact ⟨5, xr_41 K 5 0 wO (by omega) (by omega) (ow_0 _ _).symm⟩
    · have hin : vp_in (nI i) 24 := vp_in_nI (by omega) (by omega)
      have hc : (nI i).toNatClampNeg = i := nI_clamp (by omega)
      refine ⟨hin, ?_⟩
      rw [hc]
      refine br_c (fun q => ⟨hin, hin, ?_⟩) (fun q => ?_)
      · intro w' ew
        obtain ⟨m, m1, m2⟩ := ho i hlt q
        rw [show vp_nar .byte (oy i).toInt8.toInt32 = oy i from by rw [m1]; exact nr_b (by omega), ea] at ew
        intro y hy
        have e2 := hy.trans (nI_1 i)
        subst e2
        exact ih (i + 1) w' (by omega) (by omega) (ew.trans (ov_s q))
      · intro y hy
        have e2 := hy.trans (nI_1 i)
        subst e2
        exact ih (i + 1) hS (by omega) (by omega) (ea.trans (ov_n q))
theorem xb_2 {post : SX → Prop} {N : Nat} {hS0 wO : Nat → Int32} (hN : N ≤ 24) (h : sN = nI N) (ho : ∀ s, s < 24 → ∃ m, nO s = nI m ∧ m < 64) (hw : ∀ p, p < 4 → ∃ m, nW p = nI m ∧ m < 16) (K : post (sN, sC, sW, pP, pD, pE, nc, tc, lV, bU, pL, wH, 0, kd, ox, oy, oz, wd, fo, su, rd, dp, nx, en, ov_f N kd nO hS0, ow_f 4 nW wO, nO, nW, la, lb, nl, fl, eo, so, ne, io, td, tf, tb, vA, cH, mK, cA, sK)) :
    ∀ (d i : Nat) (hS : Nat → Int32), N < d + i → i ≤ N → hS = ov_f i kd nO hS0 → wX_back_2 post sN sC sW pP pD pE nc tc lV bU pL wH sE d (nI i) kd ox oy oz wd fo su rd dp nx en hS wO nO nW la lb nl fl eo so ne io td tf tb vA cH mK cA sK := by
  intro d
  induction d with
  | zero => intro i hS h1 h2; omega
  | succ d ih =>
    intro i hS h1 h2 ea
    unfold wX_back_2
    refine pk_le N i (fun hle => ?_) (fun hlt => ?_) h
    · have e : i = N := by omega
      subst e ea
      exact ⟨5, xb_40 hw K 5 0 wO (by omega) (by omega) (ow_0 _ _).symm⟩
    · have hin : vp_in (nI i) 24 := vp_in_nI (by omega) (by omega)
      have hc : (nI i).toNatClampNeg = i := nI_clamp (by omega)
      refine ⟨hin, ?_⟩
      rw [hc]
      refine br_c (fun q => ⟨hin, hin, ?_⟩) (fun q => ?_)
      · intro w' ew
        obtain ⟨m, m1, m2⟩ := ho i (by omega)
        rw [show vp_nar .byte (nO i) = nO i from by rw [m1]; exact nr_b0 (by omega), ea] at ew
        intro y hy
        have e2 := hy.trans (nI_1 i)
        subst e2
        exact ih (i + 1) w' (by omega) (by omega) (ew.trans (ov_s q))
      · intro y hy
        have e2 := hy.trans (nI_1 i)
        subst e2
        exact ih (i + 1) hS (by omega) (by omega) (ea.trans (ov_n q))
end
section
variable {sN sC sW pP pD pE nc tc lV bU pL wH sE : Int32} {kd ox oy oz wd fo su rd dp nx en hS wO la lb nl fl eo so ne io td tf tb : Nat → Int32} {vA cH mK cA sK : Nat → Int64}
variable {nO : Nat → Int32}
theorem xk_30 {post : SX → Prop} {nW0 : Nat → Int32} (hw : ∀ p, p < 4 → ∃ m, wO p = nI m ∧ m < 16) (K : post (sN, sC, sW, pP, pD, pE, nc, tc, lV, bU, pL, wH, sE, kd, ox, oy, oz, wd, fo, su, rd, dp, nx, en, hS, wO, nO, ow_f 4 wO nW0, la, lb, nl, fl, eo, so, ne, io, td, tf, tb, vA, cH, mK, cA, sK)) : ∀ (d i : Nat) (nW : Nat → Int32), 4 < d + i → i ≤ 4 → nW = ow_f i wO nW0 → wX_keep_30 post sN sC sW pP pD pE nc tc lV bU pL wH sE d (nI i) kd ox oy oz wd fo su rd dp nx en hS wO nO nW la lb nl fl eo so ne io td tf tb vA cH mK cA sK := by
  intro d
  induction d with
  | zero => intro i nW h1 h2; omega
  | succ d ih =>
    intro i nW h1 h2 ea
    unfold wX_keep_30
    refine pk_le 4 i (fun hle => ?_) (fun hlt => ?_)
    · have e : i = 4 := by omega
      subst e ea
      exact K
    · have hin : vp_in (nI i) 4 := vp_in_nI (by omega) (by omega)
      obtain ⟨m, m1, m2⟩ := hw i hlt
      refine ⟨hin, hin, ?_⟩
      intro w' ew
      rw [nI_clamp (by omega), show vp_nar .byte (wO i) = wO i from by rw [m1]; exact nr_b0 (by omega), ea] at ew
      have ew2 := ew.trans (ow_s (n := i) (a := wO) (b := nW0))
      intro y hy
      have e2 := hy.trans (nI_1 i)
      subst e2
      exact ih (i + 1) w' (by omega) (by omega) ew2
end
section
variable {sN sC sW pP pD pE nc tc lV bU pL wH sE : Int32} {kd ox oy oz wd fo su rd dp nx en hS wO la lb nl fl eo so ne io td tf tb : Nat → Int32} {vA cH mK cA sK : Nat → Int64}
theorem xk_2 {post : SX → Prop} {N : Nat} {nO0 nW : Nat → Int32} (hN : N ≤ 24) (h : sN = nI N) (ho : ∀ s, s < 24 → ∃ m, hS s = nI m ∧ m < 64) (hw : ∀ p, p < 4 → ∃ m, wO p = nI m ∧ m < 16) (K : post (sN, sC, sW, pP, pD, pE, nc, tc, lV, bU, pL, wH, sE, kd, ox, oy, oz, wd, fo, su, rd, dp, nx, en, hS, wO, ow_f N hS nO0, ow_f 4 wO nW, la, lb, nl, fl, eo, so, ne, io, td, tf, tb, vA, cH, mK, cA, sK)) :
    ∀ (d i : Nat) (nO : Nat → Int32), N < d + i → i ≤ N → nO = ow_f i hS nO0 → wX_keep_2 post sN sC sW pP pD pE nc tc lV bU pL wH sE d (nI i) kd ox oy oz wd fo su rd dp nx en hS wO nO nW la lb nl fl eo so ne io td tf tb vA cH mK cA sK := by
  intro d
  induction d with
  | zero => intro i nO h1 h2; omega
  | succ d ih =>
    intro i nO h1 h2 ea
    unfold wX_keep_2
    refine pk_le N i (fun hle => ?_) (fun hlt => ?_) h
    · have e : i = N := by omega
      subst e ea
      exact ⟨5, xk_30 hw K 5 0 nW (by omega) (by omega) (ow_0 _ _).symm⟩
    · have hin : vp_in (nI i) 24 := vp_in_nI (by omega) (by omega)
      have hc : (nI i).toNatClampNeg = i := nI_clamp (by omega)
      refine ⟨hin, hin, ?_⟩
      rw [hc]
      intro w' ew
      obtain ⟨m, m1, m2⟩ := ho i (by omega)
      rw [show vp_nar .byte (hS i) = hS i from by rw [m1]; exact nr_b0 (by omega), ea] at ew
      intro y hy
      have e2 := hy.trans (nI_1 i)
      subst e2
      exact ih (i + 1) w' (by omega) (by omega) (ew.trans ow_s)
end
section
variable {yn yc yh yp yd yw : Int32} {ki eX eY eZ wi sT nT fR vL nX eN nM tR mT : Nat → Int32}
theorem yr_40 {post : SY → Prop} {mE0 : Nat → Int32} (K : post (yn, yc, yh, yp, yd, yw, ki, eX, eY, eZ, wi, sT, nT, fR, vL, nX, eN, ow_f 4 (fun _ => 0) mE0, nM, tR, mT)) : ∀ (d i : Nat) (mE : Nat → Int32), 4 < d + i → i ≤ 4 → mE = ow_f i (fun _ => 0) mE0 → wY_reset_40 post yn yc yh yp yd yw d (nI i) ki eX eY eZ wi sT nT fR vL nX eN mE nM tR mT := by
  intro d
  induction d with
  | zero => intro i mE h1 h2; omega
  | succ d ih =>
    intro i mE h1 h2 ea
    unfold wY_reset_40
    refine pk_le 4 i (fun hle => ?_) (fun hlt => ?_)
    · have e : i = 4 := by omega
      subst e ea
      exact K
    · have hin : vp_in (nI i) 4 := vp_in_nI (by omega) (by omega)
      refine ⟨hin, ?_⟩
      intro w' ew
      rw [nI_clamp (by omega), ea] at ew
      have ew2 := ew.trans (ow_s (n := i) (a := (fun _ => 0)) (b := mE0))
      intro y hy
      have e2 := hy.trans (nI_1 i)
      subst e2
      exact ih (i + 1) w' (by omega) (by omega) ew2
theorem yb_40 {post : SY → Prop} {mE0 : Nat → Int32} (K : post (yn, yc, yh, yp, yd, yw, ki, eX, eY, eZ, wi, sT, nT, fR, vL, nX, eN, ow_f 4 nM mE0, nM, tR, mT)) : ∀ (d i : Nat) (mE : Nat → Int32), 4 < d + i → i ≤ 4 → mE = ow_f i nM mE0 → wY_back_40 post yn yc yh yp yd yw d (nI i) ki eX eY eZ wi sT nT fR vL nX eN mE nM tR mT := by
  intro d
  induction d with
  | zero => intro i mE h1 h2; omega
  | succ d ih =>
    intro i mE h1 h2 ea
    unfold wY_back_40
    refine pk_le 4 i (fun hle => ?_) (fun hlt => ?_)
    · have e : i = 4 := by omega
      subst e ea
      exact K
    · have hin : vp_in (nI i) 4 := vp_in_nI (by omega) (by omega)
      refine ⟨hin, hin, ?_⟩
      intro w' ew
      rw [nI_clamp (by omega), ea] at ew
      have ew2 := ew.trans (ow_s (n := i) (a := nM) (b := mE0))
      intro y hy
      have e2 := hy.trans (nI_1 i)
      subst e2
      exact ih (i + 1) w' (by omega) (by omega) ew2
end
section
variable {yn yc yh yp yd yw : Int32} {ki eX eY eZ wi sT nT fR vL nX eN mE tR mT : Nat → Int32}
theorem yk_30 {post : SY → Prop} {nM0 : Nat → Int32} (K : post (yn, yc, yh, yp, yd, yw, ki, eX, eY, eZ, wi, sT, nT, fR, vL, nX, eN, mE, ow_f 4 mE nM0, tR, mT)) : ∀ (d i : Nat) (nM : Nat → Int32), 4 < d + i → i ≤ 4 → nM = ow_f i mE nM0 → wY_keep_30 post yn yc yh yp yd yw d (nI i) ki eX eY eZ wi sT nT fR vL nX eN mE nM tR mT := by
  intro d
  induction d with
  | zero => intro i nM h1 h2; omega
  | succ d ih =>
    intro i nM h1 h2 ea
    unfold wY_keep_30
    refine pk_le 4 i (fun hle => ?_) (fun hlt => ?_)
    · have e : i = 4 := by omega
      subst e ea
      exact K
    · have hin : vp_in (nI i) 4 := vp_in_nI (by omega) (by omega)
      refine ⟨hin, hin, ?_⟩
      intro w' ew
      rw [nI_clamp (by omega), ea] at ew
      have ew2 := ew.trans (ow_s (n := i) (a := mE) (b := nM0))
      intro y hy
      have e2 := hy.trans (nI_1 i)
      subst e2
      exact ih (i + 1) w' (by omega) (by omega) ew2
end
section
variable {yn yc yh yp yd yw : Int32} {ki eX eY eZ wi nT fR vL nX eN nM tR mT : Nat → Int32}
theorem yr_2 {post : SY → Prop} {N : Nat} {sT0 mE : Nat → Int32} (hN : N ≤ 24) (h : yn = nI N) (K : post (yn, yc, yh, yp, yd, yw, ki, eX, eY, eZ, wi, ov_f N ki eY sT0, nT, fR, vL, nX, eN, ow_f 4 (fun _ => 0) mE, nM, tR, mT)) :
    ∀ (d i : Nat) (sT : Nat → Int32), N < d + i → i ≤ N → sT = ov_f i ki eY sT0 → wY_reset_2 post yn yc yh yp yd yw d (nI i) ki eX eY eZ wi sT nT fR vL nX eN mE nM tR mT := by
  intro d
  induction d with
  | zero => intro i sT h1 h2; omega
  | succ d ih =>
    intro i sT h1 h2 ea
    unfold wY_reset_2
    refine pk_le N i (fun hle => ?_) (fun hlt => ?_) h
    · have e : i = N := by omega
      subst e ea
      exact ⟨5, yr_40 K 5 0 mE (by omega) (by omega) (ow_0 _ _).symm⟩
    · have hin : vp_in (nI i) 24 := vp_in_nI (by omega) (by omega)
      have hc : (nI i).toNatClampNeg = i := nI_clamp (by omega)
      refine ⟨hin, ?_⟩
      rw [hc]
      refine br_c (fun q => ⟨hin, hin, ?_⟩) (fun q => ?_)
      · intro w' ew
        rw [ea] at ew
        intro y hy
        have e2 := hy.trans (nI_1 i)
        subst e2
        exact ih (i + 1) w' (by omega) (by omega) (ew.trans (ov_s q))
      · intro y hy
        have e2 := hy.trans (nI_1 i)
        subst e2
        exact ih (i + 1) sT (by omega) (by omega) (ea.trans (ov_n q))
theorem yb_2 {post : SY → Prop} {N : Nat} {sT0 mE : Nat → Int32} (hN : N ≤ 24) (h : yn = nI N) (K : post (yn, yc, yh, yp, yd, yw, ki, eX, eY, eZ, wi, ov_f N ki nT sT0, nT, fR, vL, nX, eN, ow_f 4 nM mE, nM, tR, mT)) :
    ∀ (d i : Nat) (sT : Nat → Int32), N < d + i → i ≤ N → sT = ov_f i ki nT sT0 → wY_back_2 post yn yc yh yp yd yw d (nI i) ki eX eY eZ wi sT nT fR vL nX eN mE nM tR mT := by
  intro d
  induction d with
  | zero => intro i sT h1 h2; omega
  | succ d ih =>
    intro i sT h1 h2 ea
    unfold wY_back_2
    refine pk_le N i (fun hle => ?_) (fun hlt => ?_) h
    · have e : i = N := by omega
      subst e ea
      exact ⟨5, yb_40 K 5 0 mE (by omega) (by omega) (ow_0 _ _).symm⟩
    · have hin : vp_in (nI i) 24 := vp_in_nI (by omega) (by omega)
      have hc : (nI i).toNatClampNeg = i := nI_clamp (by omega)
      refine ⟨hin, ?_⟩
      rw [hc]
      refine br_c (fun q => ⟨hin, hin, ?_⟩) (fun q => ?_)
      · intro w' ew
        rw [ea] at ew
        intro y hy
        have e2 := hy.trans (nI_1 i)
        subst e2
        exact ih (i + 1) w' (by omega) (by omega) (ew.trans (ov_s q))
      · intro y hy
        have e2 := hy.trans (nI_1 i)
        subst e2
        exact ih (i + 1) sT (by omega) (by omega) (ea.trans (ov_n q))
end
section
variable {yn yc yh yp yd yw : Int32} {ki eX eY eZ wi sT fR vL nX eN mE tR mT : Nat → Int32}
theorem yk_2 {post : SY → Prop} {N : Nat} {nT0 nM : Nat → Int32} (hN : N ≤ 24) (h : yn = nI N) (K : post (yn, yc, yh, yp, yd, yw, ki, eX, eY, eZ, wi, sT, ow_f N sT nT0, fR, vL, nX, eN, mE, ow_f 4 mE nM, tR, mT)) :
    ∀ (d i : Nat) (nT : Nat → Int32), N < d + i → i ≤ N → nT = ow_f i sT nT0 → wY_keep_2 post yn yc yh yp yd yw d (nI i) ki eX eY eZ wi sT nT fR vL nX eN mE nM tR mT := by
  intro d
  induction d with
  | zero => intro i nT h1 h2; omega
  | succ d ih =>
    intro i nT h1 h2 ea
    unfold wY_keep_2
    refine pk_le N i (fun hle => ?_) (fun hlt => ?_) h
    · have e : i = N := by omega
      subst e ea
      exact ⟨5, yk_30 K 5 0 nM (by omega) (by omega) (ow_0 _ _).symm⟩
    · have hin : vp_in (nI i) 24 := vp_in_nI (by omega) (by omega)
      have hc : (nI i).toNatClampNeg = i := nI_clamp (by omega)
      refine ⟨hin, hin, ?_⟩
      rw [hc]
      intro w' ew
      rw [ea] at ew
      intro y hy
      have e2 := hy.trans (nI_1 i)
      subst e2
      exact ih (i + 1) w' (by omega) (by omega) (ew.trans ow_s)
end
theorem sv_ov {N b : Nat} {kd wd a b0 a' b' : Nat → Int32} (h : s2_b N kd wd b) (hb : b < 160) : sv_b (ov_f N kd a b0) (ow_f 4 a' b') b = sv_b a a' b := by
  unfold sv_b
  by_cases q : b < 144
  · rw [if_pos q, if_pos q]
    rcases h with z | ⟨z1, z2, z3⟩
    · omega
    · rw [show ov_f N kd a b0 (b / 6) = a (b / 6) from if_pos ⟨z1, z3⟩]
  · rw [if_neg q, if_neg q, show ow_f 4 a' b' ((b - 144) / 4) = a' ((b - 144) / 4) from if_pos (by omega)]
theorem sv_ow {N b : Nat} {kd wd a b0 a' b' : Nat → Int32} (h : s2_b N kd wd b) (hb : b < 160) : sv_b (ow_f N a b0) (ow_f 4 a' b') b = sv_b a a' b := by
  unfold sv_b
  by_cases q : b < 144
  · rw [if_pos q, if_pos q]
    rcases h with z | ⟨z1, z2, z3⟩
    · omega
    · rw [show ow_f N a b0 (b / 6) = a (b / 6) from if_pos z1]
  · rw [if_neg q, if_neg q, show ow_f 4 a' b' ((b - 144) / 4) = a' ((b - 144) / 4) from if_pos (by omega)]
theorem st_mix {wd : Nat → Int32} {N : Nat} {f g a b : Nat → Int32} (hf : ∀ s, s < 24 → (f s = nI (cl_n f s) ∧ cl_n f s < 64 ∧ (s < N → cl_n f s < 2 ^ cl_n wd s))) (hg : ∀ p, p < 4 → g p = nI (cl_n g p) ∧ cl_n g p < 16) : st_ok wd N f g := ⟨hf, hg⟩
theorem cl_eq {f g : Nat → Int32} {s : Nat} (h : f s = g s) : cl_n f s = cl_n g s := congrArg Int32.toNatClampNeg h
theorem i_vc_reset {k : Nat} {u : SX} {v : SY} (I : i_Rel k u v) (hk : k + 5 ≤ 2560) : wpX_reset (fun u' => wpY_reset (fun v' => i_Rel (k + 5) u' v') v) u := by
  refine zz_el (P := fun u v => wpX_reset (fun u' => wpY_reset (fun v' => i_Rel (k + 5) u' v') v) u) ?_ I
  intro N sN sC sW pP pD pE nc tc lV bU pL wH sE yd yw kd ox oy oz wd fo su rd dp nx en hS wO nO nW la lb nl fl eo so ne io td tf tb vL tR mT vA cH mK cA sK h
  obtain ⟨⟨a1, a2, a3, a4, a5, a6, a7⟩, h2, h3, h4, h5, h6⟩ := h
  have ho : ∀ s, s < N → kd s = 2 → oy s = nI (cl_n oy s) ∧ cl_n oy s < 2 ^ cl_n wd s ∧ cl_n oy s < 64 := by
    intro s hs ks
    have d := a3 s hs
    have y := d.2.2.2.2.2.2.2.2.1 (Or.inr ((df_k d (k := 2) (by decide)).mp ks))
    exact ⟨y.1, y.2, df_W d y.2⟩
  unfold wpX_reset
  have fin : i_Rel (k + 5) (sN, sC, sW, pP, pD, pE, nc, tc, lV, bU, pL, wH, 0, kd, ox, oy, oz, wd, fo, su, rd, dp, nx, en, ov_f N kd oy hS, ow_f 4 (fun _ => 0) wO, nO, nW, la, lb, nl, fl, eo, so, ne, io, td, tf, tb, vA, cH, mK, cA, sK) (sN, sC, sW, pP, yd, yw, kd, ox, oy, oz, wd, ov_f N kd oy hS, nO, fo, vL, nx, en, ow_f 4 (fun _ => 0) wO, nW, tR, mT) := by
    refine zz_mk ⟨⟨a1, a2, a3, a4, a5, a6, a7⟩, ⟨fun s hs => ?_, fun p hp => ?_⟩, h3, ⟨h4.1, h4.2.1, h4.2.2.1, Or.inl rfl, h4.2.2.2.2⟩, fun b p => ⟨(h5 b p).1, bi_ch (h5 b p).2 (fun b hb s2 e1 e2 => ⟨?_, e2⟩) (fun z => absurd rfl z)⟩, h6⟩
    · by_cases q : s < N ∧ kd s = 2
      · have e : ov_f N kd oy hS s = oy s := if_pos q
        have o := ho s q.1 q.2
        rw [cl_eq e, e]
        exact ⟨o.1, o.2.2, fun _ => o.2.1⟩
      · have e : ov_f N kd oy hS s = hS s := if_neg q
        rw [cl_eq e, e]
        exact h2.1 s hs
    · have e : ow_f 4 (fun _ => (0 : Int32)) wO p = 0 := if_pos hp
      have e2 : cl_n (ow_f 4 (fun _ => (0 : Int32)) wO) p = 0 := congrArg Int32.toNatClampNeg e
      rw [e2, e]
      exact ⟨rfl, by omega⟩
    · rw [sv_ov s2 hb]
      unfold sv_b fv_b
      by_cases q : b < 144
      · rw [if_pos q, if_pos q]
      · rw [if_neg q, if_neg q]
        show Nat.testBit 0 _ = false
        simp
  refine ⟨N + 1, xr_2 a2 a1 (fun s hs ks => ⟨_, (ho s hs ks).1, (ho s hs ks).2.2⟩) ?_ (N + 1) 0 _ (by omega) (by omega) (ov_0 _ _ _).symm⟩
  · unfold wpY_reset
    exact ⟨N + 1, yr_2 a2 a1 fin (N + 1) 0 _ (by omega) (by omega) (ov_0 _ _ _).symm⟩
theorem i_vc_back {k : Nat} {u : SX} {v : SY} (I : i_Rel k u v) (hk : k + 5 ≤ 2560) : wpX_back (fun u' => wpY_back (fun v' => i_Rel (k + 5) u' v') v) u := by
  refine zz_el (P := fun u v => wpX_back (fun u' => wpY_back (fun v' => i_Rel (k + 5) u' v') v) u) ?_ I
  intro N sN sC sW pP pD pE nc tc lV bU pL wH sE yd yw kd ox oy oz wd fo su rd dp nx en hS wO nO nW la lb nl fl eo so ne io td tf tb vL tR mT vA cH mK cA sK h
  obtain ⟨⟨a1, a2, a3, a4, a5, a6, a7⟩, h2, h3, h4, h5, h6⟩ := h
  unfold wpX_back
  have fin : i_Rel (k + 5) (sN, sC, sW, pP, pD, pE, nc, tc, lV, bU, pL, wH, 0, kd, ox, oy, oz, wd, fo, su, rd, dp, nx, en, ov_f N kd nO hS, ow_f 4 nW wO, nO, nW, la, lb, nl, fl, eo, so, ne, io, td, tf, tb, vA, cH, mK, cA, sK) (sN, sC, sW, pP, yd, yw, kd, ox, oy, oz, wd, ov_f N kd nO hS, nO, fo, vL, nx, en, ow_f 4 nW wO, nW, tR, mT) := by
    refine zz_mk ⟨⟨a1, a2, a3, a4, a5, a6, a7⟩, ⟨fun s hs => ?_, fun p hp => ?_⟩, h3, ⟨h4.1, h4.2.1, h4.2.2.1, Or.inl rfl, h4.2.2.2.2⟩, fun b p => ⟨(h5 b p).1, bi_ch (h5 b p).2 (fun b hb s2 e1 e2 => ⟨?_, e2⟩) (fun z => absurd rfl z)⟩, h6⟩
    · by_cases q : s < N ∧ kd s = 2
      · have e : ov_f N kd nO hS s = nO s := if_pos q
        rw [cl_eq e, e]
        exact h3.1 s hs
      · have e : ov_f N kd nO hS s = hS s := if_neg q
        rw [cl_eq e, e]
        exact h2.1 s hs
    · have e : ow_f 4 nW wO p = nW p := if_pos hp
      rw [cl_eq e, e]
      exact h3.2 p hp
    · rw [sv_ov s2 hb]
      exact e2
  refine ⟨N + 1, xb_2 a2 a1 (fun s hs => ⟨_, (h3.1 s hs).1, (h3.1 s hs).2.1⟩) (fun p hp => ⟨_, (h3.2 p hp).1, (h3.2 p hp).2⟩) ?_ (N + 1) 0 _ (by omega) (by omega) (ov_0 _ _ _).symm⟩
  · unfold wpY_back
    exact ⟨N + 1, yb_2 a2 a1 fin (N + 1) 0 _ (by omega) (by omega) (ov_0 _ _ _).symm⟩
theorem i_vc_keep {k : Nat} {u : SX} {v : SY} (I : i_Rel k u v) (hk : k + 5 ≤ 2560) : wpX_keep (fun u' => wpY_keep (fun v' => i_Rel (k + 5) u' v') v) u := by
  refine zz_el (P := fun u v => wpX_keep (fun u' => wpY_keep (fun v' => i_Rel (k + 5) u' v') v) u) ?_ I
  intro N sN sC sW pP pD pE nc tc lV bU pL wH sE yd yw kd ox oy oz wd fo su rd dp nx en hS wO nO nW la lb nl fl eo so ne io td tf tb vL tR mT vA cH mK cA sK h
  obtain ⟨⟨a1, a2, a3, a4, a5, a6, a7⟩, h2, h3, h4, h5, h6⟩ := h
  unfold wpX_keep
  have fin : i_Rel (k + 5) (sN, sC, sW, pP, pD, pE, nc, tc, lV, bU, pL, wH, sE, kd, ox, oy, oz, wd, fo, su, rd, dp, nx, en, hS, wO, ow_f N hS nO, ow_f 4 wO nW, la, lb, nl, fl, eo, so, ne, io, td, tf, tb, vA, cH, mK, cA, sK) (sN, sC, sW, pP, yd, yw, kd, ox, oy, oz, wd, hS, ow_f N hS nO, fo, vL, nx, en, wO, ow_f 4 wO nW, tR, mT) := by
    refine zz_mk ⟨⟨a1, a2, a3, a4, a5, a6, a7⟩, h2, ⟨fun s hs => ?_, fun p hp => ?_⟩, h4, fun b p => ⟨(h5 b p).1, bi_ch (h5 b p).2 (fun b hb s2 e1 e2 => ⟨e1, ?_⟩) (fun z => ⟨z, rfl, rfl⟩)⟩, h6⟩
    · by_cases q : s < N
      · have e : ow_f N hS nO s = hS s := if_pos q
        rw [cl_eq e, e]
        exact h2.1 s hs
      · have e : ow_f N hS nO s = nO s := if_neg q
        rw [cl_eq e, e]
        exact h3.1 s hs
    · have e : ow_f 4 wO nW p = wO p := if_pos hp
      rw [cl_eq e, e]
      exact h2.2 p hp
    · rw [sv_ow s2 hb]
      exact e1
  refine ⟨N + 1, xk_2 a2 a1 (fun s hs => ⟨_, (h2.1 s hs).1, (h2.1 s hs).2.1⟩) (fun p hp => ⟨_, (h2.2 p hp).1, (h2.2 p hp).2⟩) ?_ (N + 1) 0 _ (by omega) (by omega) (ow_0 _ _).symm⟩
  · unfold wpY_keep
    exact ⟨N + 1, yk_2 a2 a1 fin (N + 1) 0 _ (by omega) (by omega) (ow_0 _ _).symm⟩
end
section
/-! what is seen after settle; X's tick -/
theorem nI_B {a b : Bool} (e : nI a.toNat = nI b.toNat) : a = b := by
  cases a <;> cases b
  · rfl
  · exact absurd e (by decide)
  · exact absurd e (by decide)
  · rfl
theorem sg_sv {wd : Nat → Int32} {N : Nat} {hS wO : Nat → Int32} (hN : N ≤ 24) (h : st_ok wd N hS wO) (hW : ∀ t, t < N → cl_n wd t ≤ 6) : (∀ s, s < N → sg_st (sv_b hS wO) wd s = cl_n hS s) ∧ ∀ p, p < 4 → sg_me (sv_b hS wO) p = cl_n wO p := by
  refine ⟨fun s hs => ?_, fun p hp => ?_⟩
  · have a := h.1 s (by omega)
    have w6 := hW s hs
    refine nb_eq (a.2.2 hs) (fun i hi => ?_)
    unfold sv_b
    rw [if_pos (by omega), show (6 * s + i) / 6 = s from by omega, show (6 * s + i) % 6 = i from by omega]
  · have a := h.2 p hp
    refine nb_eq (k := 4) a.2 (fun i hi => ?_)
    unfold sv_b
    rw [if_neg (by omega), show (144 + 4 * p + i - 144) / 4 = p from by omega, show (144 + 4 * p + i) % 4 = i from by omega]
theorem sl_cv {N : Nat} {kd ox oy oz wd fo hS wO : Nat → Int32} {v : Nat → Nat} (hN : N ≤ 24) (hd : ∀ t, t < N → df_s kd ox oy oz wd t) (h : st_ok wd N hS wO) (hv : sl_s N kd ox oy oz wd fo (cl_n hS) (cl_n wO) v) : sl_s N kd ox oy oz wd fo (sg_st (sv_b hS wO) wd) (sg_me (sv_b hS wO)) v := by
  have q := sg_sv hN h (fun t ht => (hd t ht).2.2.2.2.1)
  intro s hs
  rw [hv s hs]
  exact sp_cg (hd s hs) (fun _ => (q.1 s hs).symm) (fun _ p hp => (q.2 p hp).symm) (fun _ => rfl) (fun _ _ => rfl) (fun _ => rfl)
/-- after settle: a valuation whose state bits are the state's -/
theorem bi_w {N : Nat} {kd ox oy oz wd fo nx en hS wO nO nW : Nat → Int32} {pP pD pE tc lV : Int32} {c : ga_C} {eo so ne io tf tb : Nat → Int32} {vA sK : Nat → Int64}
    (h : bi_ok N kd ox oy oz wd fo nx en hS wO nO nW pP pD pE tc lV 1 c eo so ne io tf tb vA sK) :
    ∃ w, ga_con c w ∧ (∀ b, b < 160 → lv_b kd wd N b → sg_w w so (fv_b oy) b = sv_b hS wO b) ∧
      (∀ s i, s < N → i < cl_n wd s → ∃ m, eo (6 * s + i) = nI m ∧ m < 720 ∧ vA (m / 2) = lN (w (m / 2)).toNat) ∧ (∀ b, b < 160 → s2_b N kd wd b → ∃ m, ne b = nI m ∧ m < 720 ∧ vA (m / 2) = lN (w (m / 2)).toNat) := by
  obtain ⟨m, st, cl, tl, w, w1, w2, w3⟩ := h
  have hM := m.1.2.2.1
  refine ⟨w, w1, w3 (by decide), fun s i hs hi => ?_, fun b hb s2 => ?_⟩
  · obtain ⟨e, e1, e2, e3⟩ := m.2.1.2.2.1 s hs i hi
    refine ⟨e, e1, e3, w2 _ (by omega) ?_⟩
    by_cases q : lV = 0
    · exact Or.inl q
    · have k := (tl q).2.2.2.2.1 s i hs hi
      rw [e1, nI_clamp (by omega)] at k
      exact Or.inr k
  · obtain ⟨e, e1, e2, e3⟩ := mg_ne m b hb s2
    refine ⟨e, e1, e3, w2 _ (by omega) ?_⟩
    by_cases q : lV = 0
    · exact Or.inl q
    · have k := (tl q).2.2.2.2.2 b hb s2
      rw [e1, nI_clamp (by omega)] at k
      exact Or.inr k
section
variable {sN sC sW pP pD pE tc lV bU pL wH sE : Int32} {kd ox oy oz wd fo su rd dp nx en hS wO nO nW eo so ne io td tf tb : Nat → Int32} {vA cH mK cA sK : Nat → Int64}
variable {c : ga_C}
theorem xp_18 {post : Int32 → SX → Prop} {s W : Nat} {w : Nat → Bool} (hs : s < 24) (hW : W ≤ 6) (hwd : wd s = nI W) (hv : ∀ i, i < W → ∃ m, eo (6 * s + i) = nI m ∧ m < 720 ∧ vA (m / 2) = lN (w (m / 2)).toNat) (K : post (nI (vw_n w eo s W)) (sN, sC, sW, pP, pD, pE, c.1, tc, lV, bU, pL, wH, sE, kd, ox, oy, oz, wd, fo, su, rd, dp, nx, en, hS, wO, nO, nW, c.2.1, c.2.2.1, c.2.2.2.1, c.2.2.2.2, eo, so, ne, io, td, tf, tb, vA, cH, mK, cA, sK)) :
    ∀ d i, W < d + i → i ≤ W → wX_peek_18 post (nI s) sN sC sW pP pD pE c.1 tc lV bU pL wH sE kd ox oy oz wd fo su rd dp nx en hS wO nO nW c.2.1 c.2.2.1 c.2.2.2.1 c.2.2.2.2 eo so ne io td tf tb vA cH mK cA sK d (nI (vw_n w eo s i)) (nI i) := by
  have hwd' : wd (nI s).toNatClampNeg = nI W := by rw [nI_clamp (by omega)]; exact hwd
  intro d
  induction d with
  | zero => intro i h1 h2; omega
  | succ d ih =>
    intro i h1 h2
    unfold wX_peek_18
    refine ⟨vp_in_nI hs (by omega), pk_le W i (fun hle => ?_) (fun hlt => ?_) hwd'⟩
    · have e : i = W := by omega
      subst e
      exact K
    · have e : (6 * nI s) + nI i = nI (6 * s + i) := by
        rw [show 6 * nI s = nI (6 * s) from pk_mul 6 s, nI_add]
      rw [e, nI_clamp (by omega)]
      refine ⟨vp_in_nI (by omega) (by omega), ?_⟩
      obtain ⟨m, m1, m2, m3⟩ := hv i hlt
      refine gl_bit (w := w) m1 m2 m3 ?_
      intro x ex
      rw [ix_acc (show vw_n w eo s i < 2 ^ i from nb_lt _ i) (by omega)] at ex
      intro y ey
      have e2 := ey.trans (nI_1 i)
      subst e2 ex
      exact ih (i + 1) (by omega) (by omega)
end
/-! flips -/
theorem fl_h {hS wO : Nat → Int32} {b h : Nat} (hb : b < 144) (e : hS (b / 6) = nI h) (hh : h < 64) : (∀ j, j < 160 → sv_b (upd hS (b / 6) (nI (h ^^^ 2 ^ (b % 6)))) wO j = (sv_b hS wO j ^^ decide (j = b))) ∧ h ^^^ 2 ^ (b % 6) < 64 := by
  have l : h ^^^ 2 ^ (b % 6) < 64 := Nat.xor_lt_two_pow (n := 6) hh (Nat.pow_lt_pow_right (by decide) (by omega))
  refine ⟨fun j hj => ?_, l⟩
  unfold sv_b
  by_cases q : j < 144
  · rw [if_pos q, if_pos q]
    by_cases e1 : j / 6 = b / 6
    · rw [e1, pk_us, e, nI_clamp (by omega), nI_clamp (by omega), Nat.testBit_xor, Nat.testBit_two_pow]
      by_cases e2 : j = b
      · simp [e2]
      · have e3 : ¬ b % 6 = j % 6 := by omega
        simp [e2, e3]
    · rw [pk_un e1]
      have e2 : ¬ j = b := fun z => e1 (by rw [z])
      simp [e2]
  · rw [if_neg q, if_neg q]
    have e2 : ¬ j = b := by omega
    simp [e2]
theorem fl_w {hS wO : Nat → Int32} {b h : Nat} (hb : 144 ≤ b) (hb2 : b < 160) (e : wO ((b - 144) / 4) = nI h) (hh : h < 16) : (∀ j, j < 160 → sv_b hS (upd wO ((b - 144) / 4) (nI (h ^^^ 2 ^ (b % 4)))) j = (sv_b hS wO j ^^ decide (j = b))) ∧ h ^^^ 2 ^ (b % 4) < 16 := by
  have l : h ^^^ 2 ^ (b % 4) < 16 := Nat.xor_lt_two_pow (n := 4) hh (Nat.pow_lt_pow_right (by decide) (by omega))
  refine ⟨fun j hj => ?_, l⟩
  unfold sv_b
  by_cases q : j < 144
  · rw [if_pos q, if_pos q]
    have e2 : ¬ j = b := by omega
    simp [e2]
  · rw [if_neg q, if_neg q]
    by_cases e1 : (j - 144) / 4 = (b - 144) / 4
    · rw [e1, pk_us, e, nI_clamp (by omega), nI_clamp (by omega), Nat.testBit_xor, Nat.testBit_two_pow]
      by_cases e2 : j = b
      · simp [e2]
      · have e3 : ¬ b % 4 = j % 4 := by omega
        simp [e2, e3]
    · rw [pk_un e1]
      have e2 : ¬ j = b := fun z => e1 (by rw [z])
      simp [e2]
section
variable {sN sC sW pP pD pE tc lV bU pL wH sE : Int32} {kd ox oy oz wd fo su rd dp nx en nO nW eo so ne io td tf tb : Nat → Int32} {vA cH mK cA sK : Nat → Int64}
theorem xt_4 {post : Int32 → SX → Prop} {c : ga_C} {N : Nat} {w : Nat → Bool} {df : Nat → Bool} {hS0 wO0 : Nat → Int32} (hN : N ≤ 24) (hsN : sN = nI N) (hd : ∀ t, t < N → df_s kd ox oy oz wd t)
    (hv : ∀ b, b < 160 → s2_b N kd wd b → ∃ m, ne b = nI m ∧ m < 720 ∧ vA (m / 2) = lN (w (m / 2)).toNat) (h0 : ∀ b, b < 160 → ¬ s2_b N kd wd b → df b = false) (h2 : ∀ b, b < 160 → s2_b N kd wd b → nb_lit w (ne b) = (sv_b hS0 wO0 b ^^ df b))
    (K : ∀ hS' wO' sE', sv_ok hS' wO' → (∀ j, j < 160 → sv_b hS' wO' j = (sv_b hS0 wO0 j ^^ df j)) → (∀ t, 24 ≤ t → hS' t = hS0 t) → (∀ t, 4 ≤ t → wO' t = wO0 t) → (sE' = 0 ∨ (sE' = sE ∧ ∀ j, j < 160 → df j = false)) → post (nI (pc_n df 160)) (sN, sC, sW, pP, pD, pE, c.1, tc, lV, bU, pL, wH, sE', kd, ox, oy, oz, wd, fo, su, rd, dp, nx, en, hS', wO', nO, nW, c.2.1, c.2.2.1, c.2.2.2.1, c.2.2.2.2, eo, so, ne, io, td, tf, tb, vA, cH, mK, cA, sK)) :
    ∀ (d i : Nat) (hS wO : Nat → Int32), 160 < d + i → i ≤ 160 → sv_ok hS wO → (∀ j, j < 160 → sv_b hS wO j = (sv_b hS0 wO0 j ^^ (decide (j < i) && df j))) → (∀ t, 24 ≤ t → hS t = hS0 t) → (∀ t, 4 ≤ t → wO t = wO0 t) → wX_tick_4 post sN sC sW pP pD pE c.1 tc lV bU pL wH sE d (nI (pc_n df i)) (nI i) kd ox oy oz wd fo su rd dp nx en hS wO nO nW c.2.1 c.2.2.1 c.2.2.2.1 c.2.2.2.2 eo so ne io td tf tb vA cH mK cA sK := by
  have p0 : ∀ k, pc_n df k = 0 → ∀ j, j < k → df j = false := by
    intro k
    induction k with
    | zero => intro _ j hj; omega
    | succ k ih =>
      intro h j hj
      have h' : pc_n df k + (df k).toNat = 0 := h
      by_cases e : j = k
      · rw [e]
        cases q : df k
        · rfl
        · rw [q] at h'
          simp at h'
      · exact ih (by omega) j (by omega)
  intro d
  induction d with
  | zero => intro i hS wO h1 h3; omega
  | succ d ih =>
    intro i hS wO h1 h3 hok hI hH hW
    have pl := pc_le df i
    unfold wX_tick_4
    refine pk_le 160 i (fun hle => ?_) (fun hlt => ?_)
    · have e : i = 160 := by omega
      subst e
      have hI' : ∀ j, j < 160 → sv_b hS wO j = (sv_b hS0 wO0 j ^^ df j) := fun j hj => by
        rw [hI j hj]; simp [hj]
      refine pk_le (pc_n df 160) 0 (fun z => ?_) (fun z => ?_)
      · exact K hS wO sE hok hI' hH hW (Or.inr ⟨rfl, p0 160 (by omega)⟩)
      · exact K hS wO 0 hok hI' hH hW (Or.inl rfl)
    · have pcs : pc_n df (i + 1) = pc_n df i + (df i).toNat := rfl
      have stay : df i = false → ∀ y, y = nI i + 1 → wX_tick_4 post sN sC sW pP pD pE c.1 tc lV bU pL wH sE d (nI (pc_n df i)) y kd ox oy oz wd fo su rd dp nx en hS wO nO nW c.2.1 c.2.2.1 c.2.2.2.1 c.2.2.2.2 eo so ne io td tf tb vA cH mK cA sK := by
        intro q y ey
        have e2 := ey.trans (nI_1 i)
        subst e2
        have k := ih (i + 1) hS wO (by omega) (by omega) hok (fun j hj => ?_) hH hW
        · rw [pcs, q] at k
          exact k
        · rw [hI j hj]
          by_cases e : j = i
          · rw [e, q]; simp
          · have e1 : (decide (j < i)) = decide (j < i + 1) := by
              by_cases z : j < i
              · simp [z, show j < i + 1 from by omega]
              · simp [z, show ¬ j < i + 1 from by omega]
            rw [e1]
      refine gk_sort hN hsN hlt hd (fun s2 => br_t rfl ⟨vp_in_nI (by omega) (by omega), ?_⟩) (fun s2 r hr => br_f hr (stay (h0 i hlt s2)))
      rw [nI_clamp (by omega)]
      obtain ⟨m, m1, m2, m3⟩ := hv i hlt s2
      refine gl_bit (w := w) m1 m2 m3 ?_
      refine gw_stateValue hlt hok ?_
      have now : sv_b hS wO i = sv_b hS0 wO0 i := by rw [hI i hlt]; simp
      rw [h2 i hlt s2, now]
      refine br_c (fun e => ?_) (fun e => ?_)
      · have e' := nI_B e
        refine stay ?_
        cases q : df i
        · rfl
        · rw [q] at e'
          cases q2 : sv_b hS0 wO0 i <;> rw [q2] at e' <;> simp at e'
      · have q : df i = true := by
          cases q : df i
          · rw [q] at e; exact absurd (by simp) e
          · rfl
        have comb : ∀ hS' wO', (∀ j, j < 160 → sv_b hS' wO' j = (sv_b hS wO j ^^ decide (j = i))) → ∀ j, j < 160 → sv_b hS' wO' j = (sv_b hS0 wO0 j ^^ (decide (j < i + 1) && df j)) := by
          intro hS' wO' f j hj
          rw [f j hj, hI j hj]
          by_cases e : j = i
          · rw [e, q]; simp
          · have e1 : (decide (j < i)) = decide (j < i + 1) := by
              by_cases z : j < i
              · simp [z, show j < i + 1 from by omega]
              · simp [z, show ¬ j < i + 1 from by omega]
            rw [e1]; simp [e]
        intro x ex
        rw [nI_1, ← show pc_n df (i + 1) = pc_n df i + 1 from by rw [pcs, q]; rfl] at ex
        subst ex
        refine pk_lt i 144 (fun l => ?_) (fun l => ?_)
        · have e1 : nI i / 6 = nI (i / 6) := pk_div (by omega) (by decide) (by decide)
          have e2 : nI i - nI i / 6 * 6 = nI (i % 6) := pk_rem (by omega) (by decide) (by decide)
          have hin : vp_in (nI i / 6) 24 := by rw [e1]; exact vp_in_nI (by omega) (by omega)
          obtain ⟨z, ez, hz⟩ := hok.1 (i / 6) (by omega)
          obtain ⟨f1, f2⟩ := fl_h (wO := wO) l ez hz
          have p6 : (2 : Nat) ^ (i % 6) ≤ 2 ^ 5 := Nat.pow_le_pow_right (by decide) (by omega)
          refine ⟨by decide, hin, by decide, hin, ?_⟩
          intro h' eh
          rw [e2, e1, nI_clamp (by omega), ez, show (1 : Int32) <<< (nI (i % 6) &&& 31) = nI (1 * 2 ^ (i % 6)) from pk_shlN (n := 1) _ (i % 6) (s_l _ (by omega)) (by omega), Nat.one_mul, nx_xor, nr_b (by omega)] at eh
          intro y ey
          have e3 := ey.trans (nI_1 i)
          subst e3 eh
          refine ih (i + 1) _ wO (by omega) (by omega) ⟨fun s hs => ?_, hok.2⟩ (comb _ _ f1) (fun t ht => by rw [pk_un (by omega)]; exact hH t ht) hW
          by_cases e : s = i / 6
          · rw [e, pk_us]; exact ⟨_, rfl, f2⟩
          · rw [pk_un e]; exact hok.1 s hs
        · have e0 : nI i - 144 = nI (i - 144) := pk_sub (b := 144) l
          have e1 : nI (i - 144) >>> ((2 : Int32) &&& 31) = nI ((i - 144) / 4) := pk_shrN (by omega) _ 2 (by decide)
          have e2 : nI i &&& 3 = nI (i % 4) := pk_andN (by omega) 2 (by decide)
          obtain ⟨z, ez, hz⟩ := hok.2 ((i - 144) / 4) (by omega)
          obtain ⟨f1, f2⟩ := fl_w (hS := hS) l hlt ez hz
          have p6 : (2 : Nat) ^ (i % 4) ≤ 2 ^ 3 := Nat.pow_le_pow_right (by decide) (by omega)
          have hin : vp_in ((nI i - 144) >>> ((2 : Int32) &&& 31)) 4 := by rw [e0, e1]; exact vp_in_nI (by omega) (by omega)
          refine ⟨hin, hin, ?_⟩
          intro h' eh
          rw [e0, e1, e2, nI_clamp (by omega), ez, show (1 : Int32) <<< (nI (i % 4) &&& 31) = nI (1 * 2 ^ (i % 4)) from pk_shlN (n := 1) _ (i % 4) (s_l _ (by omega)) (by omega), Nat.one_mul, nx_xor, nr_b (by omega)] at eh
          intro y ey
          have e3 := ey.trans (nI_1 i)
          subst e3 eh
          refine ih (i + 1) hS _ (by omega) (by omega) ⟨hok.1, fun s hs => ?_⟩ (comb _ _ f1) hH (fun t ht => by rw [pk_un (by omega)]; exact hW t ht)
          by_cases e : s = (i - 144) / 4
          · rw [e, pk_us]; exact ⟨_, rfl, f2⟩
          · rw [pk_un e]; exact hok.2 s hs
end
end
section
/-! the reference's tick -/
theorem ov_e {n : Nat} {kd a b : Nat → Int32} (h : kd n = 2 → a n = b n) : ov_f n kd a b = ov_f (n + 1) kd a b := by
  by_cases q : kd n = 2
  · funext t
    show (if t < n ∧ kd t = 2 then a t else b t) = (if t < n + 1 ∧ kd t = 2 then a t else b t)
    by_cases z : t < n ∧ kd t = 2
    · rw [if_pos z, if_pos ⟨by omega, z.2⟩]
    · rw [if_neg z]
      by_cases y : t < n + 1 ∧ kd t = 2
      · have e : t = n := by
          by_cases e : t = n
          · exact e
          · exact absurd ⟨by omega, y.2⟩ z
        rw [if_pos y, e, h q]
      · rw [if_neg y]
  · exact ov_n q
/-- how many bits of registers change -/
def ts_n (ki : Nat → Int32) (st V : Nat → Nat) : Nat → Nat
  | 0 => 0
  | s + 1 => ts_n ki st V s + (if ki s = 2 then pc_n (fun i => (st s ^^^ V s).testBit i) 6 else 0)
def tm_n (yp yd yw : Int32) (mem v : Nat → Nat) : Nat := if yp = -1 then 0 else if v yw.toNatClampNeg = 1 then pc_n (fun i => (mem (v yp.toNatClampNeg) ^^^ v yd.toNatClampNeg).testBit i) 6 else 0
def tw_f (yp yd yw : Int32) (mE : Nat → Int32) (v : Nat → Nat) : Nat → Int32 := fun p => if p < 4 then nI (nx_m yp yd yw (cl_n mE) v p) else mE p
theorem pc_0 (k : Nat) : pc_n (fun i => Nat.testBit 0 i) k = 0 := by
  induction k with
  | zero => rfl
  | succ k ih =>
    show pc_n (fun i => Nat.testBit 0 i) k + (Nat.testBit 0 k).toNat = 0
    rw [ih]; simp
section
variable {yn yc yh yp yd yw : Int32} {ki eX eY eZ wi nT fR vL nX eN mE nM tR mT : Nat → Int32}
theorem yt_9 {post : Int32 → SY → Prop} {N : Nat} {sT0 : Nat → Int32} {v : Nat → Nat} (hN : N ≤ 24) (hyn : yn = nI N) (hcn : cn_ok ki wi nX eN N) (hpt : pt_ok wi yp yd yw N) (hv : ∀ t, t < N → vL t = nI (v t) ∧ v t < 2 ^ cl_n wi t ∧ v t < 64) (hst : ∀ t, t < 24 → sT0 t = nI (cl_n sT0 t) ∧ cl_n sT0 t < 64) (hm : ∀ p, p < 4 → mE p = nI (cl_n mE p) ∧ cl_n mE p < 16)
    (K : post (nI (ts_n ki (cl_n sT0) (nx_s nX eN (cl_n sT0) v) N + tm_n yp yd yw (cl_n mE) v)) (yn, yc, yh, yp, yd, yw, ki, eX, eY, eZ, wi, ov_f N ki (fun t => nI (nx_s nX eN (cl_n sT0) v t)) sT0, nT, fR, vL, nX, eN, tw_f yp yd yw mE v, nM, tR, mT)) :
    ∀ (d s : Nat) (sT : Nat → Int32), N < d + s → s ≤ N → sT = ov_f s ki (fun t => nI (nx_s nX eN (cl_n sT0) v t)) sT0 → wY_tick_9 post yn yc yh yp yd yw d (nI (ts_n ki (cl_n sT0) (nx_s nX eN (cl_n sT0) v) s)) (nI s) ki eX eY eZ wi sT nT fR vL nX eN mE nM tR mT := by
  intro d
  induction d with
  | zero => intro s sT h1 h2; omega
  | succ d ih =>
    intro s sT h1 h2 ea
    unfold wY_tick_9
    refine pk_le N s (fun hle => ?_) (fun hlt => ?_) hyn
    · have e : s = N := by omega
      subst e ea
      rcases hpt with z | ⟨p, dd, e, z1, z2, z3, z4, z5, z6, z7, z8, z9⟩
      · have etw : tw_f yp yd yw mE v = mE := by
          funext p
          unfold tw_f nx_m
          by_cases q : p < 4
          · rw [if_pos q, if_pos z, ← (hm p q).1]
          · rw [if_neg q]
        have etm : tm_n yp yd yw (cl_n mE) v = 0 := if_pos z
        rw [etw, etm, Nat.add_zero] at K
        exact br_t (by rw [z]; decide) K
      · have pn : ¬ yp = -1 := by rw [z1]; exact nr_ne (by omega)
        have cp : yp.toNatClampNeg = p := by rw [z1]; exact nI_clamp (by omega)
        have cd : yd.toNatClampNeg = dd := by rw [z2]; exact nI_clamp (by omega)
        have cw : yw.toNatClampNeg = e := by rw [z3]; exact nI_clamp (by omega)
        have iP : vp_in yp 24 := by rw [z1]; exact vp_in_nI (by omega) (by omega)
        have iD : vp_in yd 24 := by rw [z2]; exact vp_in_nI (by omega) (by omega)
        have iW : vp_in yw 24 := by rw [z3]; exact vp_in_nI (by omega) (by omega)
        have vp := hv p z4
        have vd := hv dd z5
        have vw := hv e z6
        have v4 : v p < 4 := by have := vp.2.1; rw [z7] at this; exact this
        have v16 : v dd < 16 := by have := vd.2.1; rw [z8] at this; exact this
        have iM : vp_in (nI (v p)) 4 := vp_in_nI v4 (by omega)
        have m4 := hm (v p) v4
        refine br_f (by rw [z1]; exact nI_pos (by omega)) ⟨iW, ?_⟩
        rw [cw, vw.1]
        refine pk_eq (v e) 1 (fun w1 => ?_) (fun w1 => ?_)
        · have etm : tm_n yp yd yw (cl_n mE) v = pc_n (fun i => (cl_n mE (v p) ^^^ v dd).testBit i) 6 := by
            unfold tm_n
            rw [if_neg pn, cw, if_pos w1, cp, cd]
          have etw : tw_f yp yd yw mE v = upd mE (v p) (nI (v dd)) := by
            funext q
            unfold tw_f nx_m
            by_cases q4 : q < 4
            · rw [if_pos q4, if_neg pn, cw, cp, cd]
              by_cases qe : q = v p
              · rw [if_pos ⟨w1, qe.symm⟩, qe, pk_us]
              · rw [if_neg (fun z => qe z.2.symm), pk_un qe, ← (hm q q4).1]
            · rw [if_neg q4, pk_un (by omega)]
          rw [etw, etm] at K
          refine ⟨iP, ?_⟩
          rw [cp, cd, vp.1, vd.1, nI_clamp (by omega), m4.1]
          refine ⟨iM, iD, ?_⟩
          rw [nx_xor]
          refine yw_ones (Nat.lt_of_lt_of_le (Nat.xor_lt_two_pow (n := 6) (by omega) (by omega)) (by decide)) ?_
          intro x ex
          rw [nI_add] at ex
          subst ex
          refine ⟨iP, iD, iM, ?_⟩
          intro m' em
          subst em
          exact K
        · have etm : tm_n yp yd yw (cl_n mE) v = 0 := by
            unfold tm_n
            rw [if_neg pn, cw, if_neg w1]
          have etw : tw_f yp yd yw mE v = mE := by
            funext q
            unfold tw_f nx_m
            by_cases q4 : q < 4
            · rw [if_pos q4, if_neg pn, cw, if_neg (fun z => w1 z.1), ← (hm q q4).1]
            · rw [if_neg q4]
          rw [etw, etm, Nat.add_zero] at K
          exact K
    · have hin : vp_in (nI s) 24 := vp_in_nI (by omega) (by omega)
      have hc : (nI s).toNatClampNeg = s := nI_clamp (by omega)
      have sts := hst s (by omega)
      have ats : sT s = sT0 s := by rw [ea]; exact if_neg (by omega)
      have tss : ts_n ki (cl_n sT0) (nx_s nX eN (cl_n sT0) v) (s + 1) = ts_n ki (cl_n sT0) (nx_s nX eN (cl_n sT0) v) s + (if ki s = 2 then pc_n (fun i => (cl_n sT0 s ^^^ nx_s nX eN (cl_n sT0) v s).testBit i) 6 else 0) := rfl
      have none : (ki s = 2 → nx_s nX eN (cl_n sT0) v s = cl_n sT0 s) → wY_tick_76 post (wY_tick_9 post yn yc yh yp yd yw d) (nI (ts_n ki (cl_n sT0) (nx_s nX eN (cl_n sT0) v) s)) (nI s) 0 yn yc yh yp yd yw ki eX eY eZ wi sT nT fR vL nX eN mE nM tR mT := by
        intro q
        unfold wY_tick_76
        refine br_t rfl ?_
        intro y hy
        have e2 := hy.trans (nI_1 s)
        subst e2
        have e3 : ts_n ki (cl_n sT0) (nx_s nX eN (cl_n sT0) v) (s + 1) = ts_n ki (cl_n sT0) (nx_s nX eN (cl_n sT0) v) s := by
          rw [tss]
          by_cases z : ki s = 2
          · rw [if_pos z, q z, Nat.xor_self, pc_0, Nat.add_zero]
          · rw [if_neg z, Nat.add_zero]
        rw [← e3]
        refine ih (s + 1) sT (by omega) (by omega) (ea.trans (ov_e (fun z => ?_)))
        show nI (nx_s nX eN (cl_n sT0) v s) = sT0 s
        rw [q z, ← sts.1]
      have some_ : ∀ t, ki s = 2 → nX s = nI t → t < N → nx_s nX eN (cl_n sT0) v s = v t → ∀ x3 : Int32, ¬ x3 = 0 → wY_tick_76 post (wY_tick_9 post yn yc yh yp yd yw d) (nI (ts_n ki (cl_n sT0) (nx_s nX eN (cl_n sT0) v) s)) (nI s) x3 yn yc yh yp yd yw ki eX eY eZ wi sT nT fR vL nX eN mE nM tR mT := by
        intro t k2 t1 t2 t3 x3 hx
        have vt := hv t t2
        have iT : vp_in (nX (nI s).toNatClampNeg) 24 := by rw [hc, t1]; exact vp_in_nI (by omega) (by omega)
        unfold wY_tick_76
        refine br_f hx ⟨hin, hin, iT, ?_⟩
        rw [hc, t1, nI_clamp (by omega), vt.1, ats, sts.1, nx_xor]
        refine yw_ones (Nat.lt_of_lt_of_le (Nat.xor_lt_two_pow (n := 6) (by omega) (by omega)) (by decide)) ?_
        intro x ex
        rw [nI_add] at ex
        refine ⟨hin, vp_in_nI (by omega) (by omega), hin, ?_⟩
        intro s' es
        rw [ea] at es
        intro y hy
        have e2 := hy.trans (nI_1 s)
        have e3 : ts_n ki (cl_n sT0) (nx_s nX eN (cl_n sT0) v) (s + 1) = ts_n ki (cl_n sT0) (nx_s nX eN (cl_n sT0) v) s + pc_n (fun i => (cl_n sT0 s ^^^ v t).testBit i) 6 := by
          rw [tss, if_pos k2, t3]
        rw [← e3] at ex
        subst e2 ex
        refine ih (s + 1) s' (by omega) (by omega) (es.trans ?_)
        rw [← t3]
        exact ov_s (a := fun t => nI (nx_s nX eN (cl_n sT0) v t)) k2
      have g40 : (ki s = 2 → nx_s nX eN (cl_n sT0) v s = cl_n sT0 s) → wY_tick_40 post (wY_tick_9 post yn yc yh yp yd yw d) (nI (ts_n ki (cl_n sT0) (nx_s nX eN (cl_n sT0) v) s)) (nI s) yn yc yh yp yd yw ki eX eY eZ wi sT nT fR vL nX eN mE nM tR mT := by
        intro q
        unfold wY_tick_40 wY_tick_41
        exact br_t rfl (none q)
      refine ⟨hin, ?_⟩
      rw [hc]
      refine br_c (fun k2 => ⟨hin, ?_⟩) (fun k2 => g40 (fun z => absurd z k2))
      obtain ⟨a, b⟩ := hcn s hlt k2
      rcases a with z | ⟨t, t1, t2, t3⟩
      · exact br_t (by rw [z]; decide) (g40 (fun _ => if_pos z))
      · have tn : ¬ nX s = -1 := by rw [t1]; exact nr_ne (by omega)
        have ct : cl_n nX s = t := by show (nX s).toNatClampNeg = t; rw [t1]; exact nI_clamp (by omega)
        refine br_f (by rw [t1]; exact nI_pos (by omega)) ?_
        unfold wY_tick_41
        refine br_f (by decide) ⟨hin, ?_⟩
        rw [hc]
        rcases b with z | ⟨e, e1, e2, e3⟩
        · refine br_t (by rw [z]; decide) (some_ t k2 t1 t2 ?_ 1 (by decide))
          unfold nx_s
          rw [if_neg tn, if_pos (Or.inl z), ct]
        · have en : ¬ eN s = -1 := by rw [e1]; exact nr_ne (by omega)
          have ce : cl_n eN s = e := by show (eN s).toNatClampNeg = e; rw [e1]; exact nI_clamp (by omega)
          have ve := hv e e2
          refine br_f (by rw [e1]; exact nI_pos (by omega)) ⟨hin, ?_⟩
          rw [e1]
          refine ⟨vp_in_nI (by omega) (by omega), ?_⟩
          rw [nI_clamp (by omega), ve.1]
          refine pk_eq (v e) 1 (fun w1 => ?_) (fun w1 => ?_)
          · unfold wY_tick_75
            refine some_ t k2 t1 t2 ?_ 1 (by decide)
            unfold nx_s
            rw [if_neg tn, ce, if_pos (Or.inr w1), ct]
          · unfold wY_tick_75
            refine none (fun _ => ?_)
            unfold nx_s
            rw [if_neg tn, ce, if_neg (fun z => by rcases z with z | z; exact en z; exact w1 z)]
variable {sT : Nat → Int32}
theorem yt_tick {post : Int32 → SY → Prop} {N : Nat} (hN : N ≤ 24) (hyn : yn = nI N) (hd : ∀ t, t < N → df_s ki eX eY eZ wi t) (hfo : fo_ok fR wi N) (hcn : cn_ok ki wi nX eN N) (hpt : pt_ok wi yp yd yw N) (hst : st_ok wi N sT mE)
    (K : ∀ vL', sl_s N ki eX eY eZ wi fR (cl_n sT) (cl_n mE) (cl_n vL') → post (nI (ts_n ki (cl_n sT) (nx_s nX eN (cl_n sT) (cl_n vL')) N + tm_n yp yd yw (cl_n mE) (cl_n vL'))) (yn, yc, yh, yp, yd, yw, ki, eX, eY, eZ, wi, ov_f N ki (fun t => nI (nx_s nX eN (cl_n sT) (cl_n vL') t)) sT, nT, fR, vL', nX, eN, tw_f yp yd yw mE (cl_n vL'), nM, tR, mT)) : wpY_tick post (yn, yc, yh, yp, yd, yw, ki, eX, eY, eZ, wi, sT, nT, fR, vL, nX, eN, mE, nM, tR, mT) := by
  unfold wpY_tick
  refine yw_work (x1 := 0) (st := cl_n sT) (mem := cl_n mE) hN hyn hd hfo (fun s hs _ => ?_) hst.2 ?_
  · rw [if_pos rfl]
    exact ⟨(hst.1 s (by omega)).1, (hst.1 s (by omega)).2.2 hs⟩
  · intro vL' f1 f2
    refine ⟨N + 1, yt_9 (v := cl_n vL') hN hyn hcn hpt (fun t ht => ⟨(f1 t ht).1, (f1 t ht).2, df_W (hd t ht) (f1 t ht).2⟩) (fun t ht => ⟨(hst.1 t ht).1, (hst.1 t ht).2.1⟩) hst.2 (K vL' f2) (N + 1) 0 sT (by omega) (by omega) (ov_0 _ _ _).symm⟩
end
end
section
/-! X's tick against the reference's: the new state and the count -/
theorem pc_cat (f : Nat → Bool) (m : Nat) : ∀ n, pc_n f (m + n) = pc_n f m + pc_n (fun i => f (m + i)) n := by
  intro n
  induction n with
  | zero => rfl
  | succ n ih =>
    show pc_n f (m + n) + (f (m + n)).toNat = pc_n f m + (pc_n (fun i => f (m + i)) n + (f (m + n)).toNat)
    rw [ih]; omega
theorem pc_z {f : Nat → Bool} : ∀ n, (∀ i, i < n → f i = false) → pc_n f n = 0 := by
  intro n
  induction n with
  | zero => intro _; rfl
  | succ n ih =>
    intro h
    show pc_n f n + (f n).toNat = 0
    rw [ih (fun i hi => h i (by omega)), h n (by omega)]
    rfl
/-- bits of registers, signal by signal -/
theorem pc_ts {N : Nat} {kd : Nat → Int32} {df : Nat → Bool} {st V : Nat → Nat} (h1 : ∀ s, s < N → kd s = 2 → ∀ i, i < 6 → df (6 * s + i) = (st s ^^^ V s).testBit i) (h2 : ∀ s, s < N → ¬ kd s = 2 → ∀ i, i < 6 → df (6 * s + i) = false) : ∀ n, n ≤ N → pc_n df (6 * n) = ts_n kd st V n := by
  intro n
  induction n with
  | zero => intro _; rfl
  | succ n ih =>
    intro hn
    show pc_n df (6 * n + 6) = ts_n kd st V n + _
    rw [pc_cat, ih (by omega)]
    congr 1
    by_cases q : kd n = 2
    · rw [if_pos q]
      exact pc_cg 6 (fun i hi => h1 n (by omega) q i hi)
    · rw [if_neg q]
      exact pc_z 6 (fun i hi => h2 n (by omega) q i hi)
theorem nx_lt {kd ox oy oz wd nx en : Nat → Int32} {N s : Nat} {st v : Nat → Nat} (hN : N ≤ 24) (h : cn_ok kd wd nx en N) (hs : s < N) (hk : kd s = 2) (h1 : st s < 2 ^ cl_n wd s) (h2 : ∀ t, t < N → v t < 2 ^ cl_n wd t) : nx_s nx en st v s < 2 ^ cl_n wd s := by
  obtain ⟨a, b⟩ := h s hs hk
  unfold nx_s
  rcases a with z | ⟨t, t1, t2, t3⟩
  · rw [if_pos z]; exact h1
  · have tn : ¬ nx s = -1 := by rw [t1]; exact nr_ne (by omega)
    have e1 : cl_n nx s = t := by show (nx s).toNatClampNeg = t; rw [t1]; exact nI_clamp (by omega)
    rw [if_neg tn, e1]
    split
    · rw [← t3]; exact h2 t t2
    · exact h1
theorem nm_lt {wd : Nat → Int32} {pP pD pE : Int32} {N p : Nat} {mem v : Nat → Nat} (hN : N ≤ 24) (h : pt_ok wd pP pD pE N) (h1 : mem p < 16) (h2 : ∀ t, t < N → v t < 2 ^ cl_n wd t) : nx_m pP pD pE mem v p < 16 := by
  unfold nx_m
  rcases h with z | ⟨q, d, e, z1, z2, z3, z4, z5, z6, z7, z8, z9⟩
  · rw [if_pos z]; exact h1
  · split
    · exact h1
    · rw [z1, z2, z3, nI_clamp (by omega), nI_clamp (by omega), nI_clamp (by omega)]
      split
      · have := h2 d z5
        rw [z8] at this
        exact this
      · exact h1
theorem tb_6 {a b : Nat} (ha : a < 64) (hb : b < 64) (h : ∀ i, i < 6 → a.testBit i = b.testBit i) : a = b := by
  have e1 := nb_of (n := a) 6 ha
  have e2 := nb_of (n := b) 6 hb
  rw [← e1, ← e2]
  exact nb_cg 6 h
theorem tb_4 {a b : Nat} (ha : a < 16) (hb : b < 16) (h : ∀ i, i < 4 → a.testBit i = b.testBit i) : a = b := by
  have e1 := nb_of (n := a) 4 ha
  have e2 := nb_of (n := b) 4 hb
  rw [← e1, ← e2]
  exact nb_cg 4 h
theorem tb_hi {a k i : Nat} (h : a < 2 ^ k) (hi : k ≤ i) : a.testBit i = false := Nat.testBit_lt_two_pow (Nat.lt_of_lt_of_le h (Nat.pow_le_pow_right (by decide) hi))
theorem sv_at {hS wO : Nat → Int32} {s i : Nat} (hs : s < 24) (hi : i < 6) : sv_b hS wO (6 * s + i) = (cl_n hS s).testBit i := by
  unfold sv_b
  rw [if_pos (by omega), show (6 * s + i) / 6 = s from by omega, show (6 * s + i) % 6 = i from by omega]
theorem sv_am {hS wO : Nat → Int32} {p i : Nat} (hp : p < 4) (hi : i < 4) : sv_b hS wO (144 + 4 * p + i) = (cl_n wO p).testBit i := by
  unfold sv_b
  rw [if_neg (by omega), show (144 + 4 * p + i - 144) / 4 = p from by omega, show (144 + 4 * p + i) % 4 = i from by omega]
/-- which bits change -/
noncomputable def df_b (N : Nat) (kd wd nx en : Nat → Int32) (pP pD pE : Int32) (σ : Nat → Bool) (v : Nat → Nat) (b : Nat) : Bool := @decide (s2_b N kd wd b ∧ nx_b nx en pP pD pE wd σ v b ≠ σ b) (Classical.propDecidable _)
theorem df_0 {N : Nat} {kd wd nx en : Nat → Int32} {pP pD pE : Int32} {σ : Nat → Bool} {v : Nat → Nat} {b : Nat} (h : ¬ s2_b N kd wd b) : df_b N kd wd nx en pP pD pE σ v b = false := @decide_eq_false _ (Classical.propDecidable _) (fun z => h z.1)
theorem df_2 {N : Nat} {kd wd nx en : Nat → Int32} {pP pD pE : Int32} {σ : Nat → Bool} {v : Nat → Nat} {b : Nat} (h : s2_b N kd wd b) : nx_b nx en pP pD pE wd σ v b = (σ b ^^ df_b N kd wd nx en pP pD pE σ v b) := by
  by_cases e : nx_b nx en pP pD pE wd σ v b = σ b
  · rw [show df_b N kd wd nx en pP pD pE σ v b = false from @decide_eq_false _ (Classical.propDecidable _) (fun z => z.2 e), e]
    simp
  · rw [show df_b N kd wd nx en pP pD pE σ v b = true from @decide_eq_true _ (Classical.propDecidable _) ⟨h, e⟩]
    revert e
    cases nx_b nx en pP pD pE wd σ v b <;> cases σ b <;> simp
theorem tk_all {N : Nat} {kd ox oy oz wd nx en hS wO : Nat → Int32} {pP pD pE : Int32} {v : Nat → Nat} (hN : N ≤ 24) (hd : ∀ t, t < N → df_s kd ox oy oz wd t) (hcn : cn_ok kd wd nx en N) (hpt : pt_ok wd pP pD pE N) (hst : st_ok wd N hS wO) (hv : ∀ t, t < N → v t < 2 ^ cl_n wd t) :
    (∀ hS' wO', sv_ok hS' wO' → (∀ j, j < 160 → sv_b hS' wO' j = (sv_b hS wO j ^^ df_b N kd wd nx en pP pD pE (sv_b hS wO) v j)) → (∀ t, 24 ≤ t → hS' t = hS t) → (∀ t, 4 ≤ t → wO' t = wO t) →
      hS' = ov_f N kd (fun t => nI (nx_s nx en (cl_n hS) v t)) hS ∧ wO' = tw_f pP pD pE wO v) ∧
    st_ok wd N (ov_f N kd (fun t => nI (nx_s nx en (cl_n hS) v t)) hS) (tw_f pP pD pE wO v) ∧
    pc_n (df_b N kd wd nx en pP pD pE (sv_b hS wO) v) 160 = ts_n kd (cl_n hS) (nx_s nx en (cl_n hS) v) N + tm_n pP pD pE (cl_n wO) v := by
  have sg := sg_sv hN hst (fun t ht => (hd t ht).2.2.2.2.1)
  -- registers' bits
  have reg : ∀ s, s < N → kd s = 2 → nx_s nx en (cl_n hS) v s < 2 ^ cl_n wd s ∧ nx_s nx en (cl_n hS) v s < 64 := by
    intro s hs ks
    have l := nx_lt (ox := ox) (oy := oy) (oz := oz) (st := cl_n hS) (v := v) hN hcn hs ks ((hst.1 s (by omega)).2.2 hs) hv
    exact ⟨l, df_W (hd s hs) l⟩
  have s2s : ∀ s i, s < N → i < cl_n wd s → kd s = 2 → s2_b N kd wd (6 * s + i) := by
    intro s i hs hi ks
    have w6 := (hd s hs).2.2.2.2.1
    have e1 : (6 * s + i) / 6 = s := by omega
    have e2 : (6 * s + i) % 6 = i := by omega
    exact Or.inr ⟨by omega, by rw [e1, e2]; exact hi, by rw [e1]; exact ks⟩
  have regb : ∀ s, s < N → kd s = 2 → ∀ i, i < 6 → (sv_b hS wO (6 * s + i) ^^ df_b N kd wd nx en pP pD pE (sv_b hS wO) v (6 * s + i)) = (nx_s nx en (cl_n hS) v s).testBit i := by
    intro s hs ks i hi
    have w6 := (hd s hs).2.2.2.2.1
    by_cases q : i < cl_n wd s
    · rw [← df_2 (s2s s i hs q ks)]
      unfold nx_b
      rw [if_pos (by omega), show (6 * s + i) / 6 = s from by omega, show (6 * s + i) % 6 = i from by omega, nx_cg hN hcn hs ks (sg.1 s hs) (fun _ _ => rfl)]
    · have ns : ¬ s2_b N kd wd (6 * s + i) := by
        rintro (z | ⟨z1, z2, z3⟩)
        · omega
        · rw [show (6 * s + i) / 6 = s from by omega, show (6 * s + i) % 6 = i from by omega] at z2
          exact q z2
      rw [df_0 ns, sv_at (by omega) hi, tb_hi ((hst.1 s (by omega)).2.2 hs) (by omega), tb_hi (reg s hs ks).1 (by omega)]
      rfl
  have nreg : ∀ s, s < 24 → ¬ (s < N ∧ kd s = 2) → ∀ i, i < 6 → df_b N kd wd nx en pP pD pE (sv_b hS wO) v (6 * s + i) = false := by
    intro s hs hn i hi
    refine df_0 ?_
    rintro (z | ⟨z1, z2, z3⟩)
    · omega
    · rw [show (6 * s + i) / 6 = s from by omega] at z1 z3
      exact hn ⟨z1, z3⟩
  -- the memory's bits
  have mel : ∀ p, p < 4 → nx_m pP pD pE (cl_n wO) v p < 16 := fun p hp => nm_lt hN hpt (hst.2 p hp).2 hv
  have memb : ∀ p, p < 4 → ∀ i, i < 4 → (sv_b hS wO (144 + 4 * p + i) ^^ df_b N kd wd nx en pP pD pE (sv_b hS wO) v (144 + 4 * p + i)) = (nx_m pP pD pE (cl_n wO) v p).testBit i := by
    intro p hp i hi
    rw [← df_2 (Or.inl (by omega))]
    unfold nx_b
    rw [if_neg (by omega), show (144 + 4 * p + i - 144) / 4 = p from by omega, show (144 + 4 * p + i) % 4 = i from by omega, nm_cg hN hpt (sg.2 p hp) (fun _ _ => rfl)]
  refine ⟨fun hS' wO' hok hb hh hw => ⟨?_, ?_⟩, ⟨fun s hs => ?_, fun p hp => ?_⟩, ?_⟩
  · funext t
    by_cases t24 : t < 24
    · obtain ⟨h', e1, e2⟩ := hok.1 t t24
      have c1 : cl_n hS' t = h' := by show (hS' t).toNatClampNeg = h'; rw [e1]; exact nI_clamp (by omega)
      have bits : ∀ i, i < 6 → h'.testBit i = (sv_b hS wO (6 * t + i) ^^ df_b N kd wd nx en pP pD pE (sv_b hS wO) v (6 * t + i)) := by
        intro i hi
        rw [← hb _ (by omega), sv_at t24 hi, c1]
      by_cases q : t < N ∧ kd t = 2
      · rw [show ov_f N kd (fun t => nI (nx_s nx en (cl_n hS) v t)) hS t = nI (nx_s nx en (cl_n hS) v t) from if_pos q, e1]
        congr 1
        exact tb_6 e2 (reg t q.1 q.2).2 (fun i hi => by rw [bits i hi, regb t q.1 q.2 i hi])
      · rw [show ov_f N kd (fun t => nI (nx_s nx en (cl_n hS) v t)) hS t = hS t from if_neg q, e1, (hst.1 t t24).1]
        congr 1
        refine tb_6 e2 (hst.1 t t24).2.1 (fun i hi => ?_)
        rw [bits i hi, nreg t t24 q i hi, sv_at t24 hi]
        simp
    · rw [hh t (by omega), show ov_f N kd (fun t => nI (nx_s nx en (cl_n hS) v t)) hS t = hS t from if_neg (fun z => by omega)]
  · funext p
    by_cases p4 : p < 4
    · obtain ⟨h', e1, e2⟩ := hok.2 p p4
      have c1 : cl_n wO' p = h' := by show (wO' p).toNatClampNeg = h'; rw [e1]; exact nI_clamp (by omega)
      rw [show tw_f pP pD pE wO v p = nI (nx_m pP pD pE (cl_n wO) v p) from if_pos p4, e1]
      congr 1
      refine tb_4 e2 (mel p p4) (fun i hi => ?_)
      rw [← memb p p4 i hi, ← hb _ (by omega), sv_am p4 hi, c1]
    · rw [hw p (by omega), show tw_f pP pD pE wO v p = wO p from if_neg p4]
  · by_cases q : s < N ∧ kd s = 2
    · have e : ov_f N kd (fun t => nI (nx_s nx en (cl_n hS) v t)) hS s = nI (nx_s nx en (cl_n hS) v s) := if_pos q
      have r := reg s q.1 q.2
      have e2 : cl_n (ov_f N kd (fun t => nI (nx_s nx en (cl_n hS) v t)) hS) s = nx_s nx en (cl_n hS) v s := by
        show (ov_f N kd (fun t => nI (nx_s nx en (cl_n hS) v t)) hS s).toNatClampNeg = _
        rw [e]; exact nI_clamp (by omega)
      rw [e2, e]
      exact ⟨rfl, r.2, fun _ => r.1⟩
    · have e : ov_f N kd (fun t => nI (nx_s nx en (cl_n hS) v t)) hS s = hS s := if_neg q
      rw [cl_eq e, e]
      exact hst.1 s hs
  · have e : tw_f pP pD pE wO v p = nI (nx_m pP pD pE (cl_n wO) v p) := if_pos hp
    have r := mel p hp
    have e2 : cl_n (tw_f pP pD pE wO v) p = nx_m pP pD pE (cl_n wO) v p := by
      show (tw_f pP pD pE wO v p).toNatClampNeg = _
      rw [e]; exact nI_clamp (by omega)
    rw [e2, e]
    exact ⟨rfl, r⟩
  · -- the count
    have xb : ∀ a b d : Bool, (a ^^ d) = b → d = (a ^^ b) := by intro a b d; cases a <;> cases b <;> cases d <;> simp
    have r1 : pc_n (df_b N kd wd nx en pP pD pE (sv_b hS wO) v) (6 * N) = ts_n kd (cl_n hS) (nx_s nx en (cl_n hS) v) N := by
      refine pc_ts (fun s hs ks i hi => ?_) (fun s hs ks i hi => nreg s (by omega) (fun z => ks z.2) i hi) N (Nat.le_refl _)
      rw [Nat.testBit_xor, ← sv_at (wO := wO) (by omega) hi]
      exact xb _ _ _ (regb s hs ks i hi)
    have r2 : pc_n (df_b N kd wd nx en pP pD pE (sv_b hS wO) v) 144 = ts_n kd (cl_n hS) (nx_s nx en (cl_n hS) v) N := by
      rw [← r1]
      refine pc_ext _ 144 (by omega) (fun b h1 h2 => ?_)
      have := nreg (b / 6) (by omega) (fun z => by omega) (b % 6) (by omega)
      rw [show 6 * (b / 6) + b % 6 = b from by omega] at this
      exact this
    have md : ∀ p, p < 4 → ∀ i, i < 4 → df_b N kd wd nx en pP pD pE (sv_b hS wO) v (144 + 4 * p + i) = (cl_n wO p ^^^ nx_m pP pD pE (cl_n wO) v p).testBit i := by
      intro p hp i hi
      rw [Nat.testBit_xor, ← sv_am (hS := hS) hp hi]
      exact xb _ _ _ (memb p hp i hi)
    have r3 : pc_n (df_b N kd wd nx en pP pD pE (sv_b hS wO) v) 160 = pc_n (df_b N kd wd nx en pP pD pE (sv_b hS wO) v) 144 + (pc_n (fun i => df_b N kd wd nx en pP pD pE (sv_b hS wO) v (144 + 4 * 0 + i)) 4 + pc_n (fun i => df_b N kd wd nx en pP pD pE (sv_b hS wO) v (144 + 4 * 1 + i)) 4 + pc_n (fun i => df_b N kd wd nx en pP pD pE (sv_b hS wO) v (144 + 4 * 2 + i)) 4 + pc_n (fun i => df_b N kd wd nx en pP pD pE (sv_b hS wO) v (144 + 4 * 3 + i)) 4) := by
      rw [show (160 : Nat) = 144 + 4 + 4 + 4 + 4 from rfl, pc_cat, pc_cat, pc_cat, pc_cat]
      show pc_n (df_b N kd wd nx en pP pD pE (sv_b hS wO) v) 144 + pc_n (fun i => df_b N kd wd nx en pP pD pE (sv_b hS wO) v (144 + 4 * 0 + i)) 4 + pc_n (fun i => df_b N kd wd nx en pP pD pE (sv_b hS wO) v (144 + 4 * 1 + i)) 4 + pc_n (fun i => df_b N kd wd nx en pP pD pE (sv_b hS wO) v (144 + 4 * 2 + i)) 4 + pc_n (fun i => df_b N kd wd nx en pP pD pE (sv_b hS wO) v (144 + 4 * 3 + i)) 4 = _
      omega
    rw [r3, r2]
    congr 1
    have m1 : ∀ p, p < 4 → pc_n (fun i => df_b N kd wd nx en pP pD pE (sv_b hS wO) v (144 + 4 * p + i)) 4 = pc_n (fun i => (cl_n wO p ^^^ nx_m pP pD pE (cl_n wO) v p).testBit i) 4 := fun p hp => pc_cg 4 (md p hp)
    rw [m1 0 (by omega), m1 1 (by omega), m1 2 (by omega), m1 3 (by omega)]
    have m0 : ∀ p, nx_m pP pD pE (cl_n wO) v p = cl_n wO p → pc_n (fun i => (cl_n wO p ^^^ nx_m pP pD pE (cl_n wO) v p).testBit i) 4 = 0 := by
      intro p e
      rw [e, Nat.xor_self, pc_0]
    by_cases z : pP = -1
    · have k : ∀ p, nx_m pP pD pE (cl_n wO) v p = cl_n wO p := fun p => if_pos z
      rw [m0 0 (k 0), m0 1 (k 1), m0 2 (k 2), m0 3 (k 3)]
      unfold tm_n
      rw [if_pos z]
    · unfold tm_n
      rw [if_neg z]
      by_cases w1 : v pE.toNatClampNeg = 1
      · rw [if_pos w1]
        have v4 : v pP.toNatClampNeg < 4 := by
          rcases hpt with y | ⟨q, d, e, z1, z2, z3, z4, z5, z6, z7, z8, z9⟩
          · exact absurd y z
          · rw [z1, nI_clamp (by omega)]
            have := hv q z4
            rw [z7] at this
            exact this
        have v16 : v pD.toNatClampNeg < 16 := by
          rcases hpt with y | ⟨q, d, e, z1, z2, z3, z4, z5, z6, z7, z8, z9⟩
          · exact absurd y z
          · rw [z2, nI_clamp (by omega)]
            have := hv d z5
            rw [z8] at this
            exact this
        have kn : ∀ p, p ≠ v pP.toNatClampNeg → nx_m pP pD pE (cl_n wO) v p = cl_n wO p := by
          intro p hp
          unfold nx_m
          rw [if_neg z, if_neg (fun y => hp y.2.symm)]
        have ky : nx_m pP pD pE (cl_n wO) v (v pP.toNatClampNeg) = v pD.toNatClampNeg := by
          unfold nx_m
          rw [if_neg z, if_pos ⟨w1, rfl⟩]
        have k6 : pc_n (fun i => (cl_n wO (v pP.toNatClampNeg) ^^^ v pD.toNatClampNeg).testBit i) 6 = pc_n (fun i => (cl_n wO (v pP.toNatClampNeg) ^^^ nx_m pP pD pE (cl_n wO) v (v pP.toNatClampNeg)).testBit i) 4 := by
          rw [ky]
          refine pc_ext _ 6 (by omega) (fun i h1 h2 => ?_)
          exact tb_hi (Nat.xor_lt_two_pow (n := 4) (hst.2 _ v4).2 v16) h1
        rw [k6]
        generalize hp : v pP.toNatClampNeg = p at v4 kn ⊢
        rcases (show p = 0 ∨ p = 1 ∨ p = 2 ∨ p = 3 from by omega) with e | e | e | e <;> subst e
        · rw [m0 1 (kn 1 (by decide)), m0 2 (kn 2 (by decide)), m0 3 (kn 3 (by decide))]
          omega
        · rw [m0 0 (kn 0 (by decide)), m0 2 (kn 2 (by decide)), m0 3 (kn 3 (by decide))]
          omega
        · rw [m0 0 (kn 0 (by decide)), m0 1 (kn 1 (by decide)), m0 3 (kn 3 (by decide))]
          omega
        · rw [m0 0 (kn 0 (by decide)), m0 1 (kn 1 (by decide)), m0 2 (kn 2 (by decide))]
          omega
      · rw [if_neg w1]
        have k : ∀ p, nx_m pP pD pE (cl_n wO) v p = cl_n wO p := by
          intro p
          unfold nx_m
          rw [if_neg z, if_neg (fun y => w1 y.1)]
        rw [m0 0 (k 0), m0 1 (k 1), m0 2 (k 2), m0 3 (k 3)]
end
section
/-! peek, clock -/
theorem bi_v {N : Nat} {kd ox oy oz wd fo nx en hS wO nO nW : Nat → Int32} {pP pD pE tc lV : Int32} {c : ga_C} {eo so ne io tf tb : Nat → Int32} {vA sK : Nat → Int64} (hN : N ≤ 24) (hd : ∀ t, t < N → df_s kd ox oy oz wd t) (hcn : cn_ok kd wd nx en N) (hpt : pt_ok wd pP pD pE N) (hst : st_ok wd N hS wO)
    (h : bi_ok N kd ox oy oz wd fo nx en hS wO nO nW pP pD pE tc lV 1 c eo so ne io tf tb vA sK) :
    ∃ w v, ga_con c w ∧ (∀ s i, s < N → i < cl_n wd s → ∃ m, eo (6 * s + i) = nI m ∧ m < 720 ∧ vA (m / 2) = lN (w (m / 2)).toNat) ∧ (∀ b, b < 160 → s2_b N kd wd b → ∃ m, ne b = nI m ∧ m < 720 ∧ vA (m / 2) = lN (w (m / 2)).toNat) ∧
      sl_s N kd ox oy oz wd fo (cl_n hS) (cl_n wO) v ∧ (∀ t, t < N → v t < 2 ^ cl_n wd t) ∧ (∀ t, t < N → vw_n w eo t (cl_n wd t) = v t) ∧ (∀ b, b < 160 → s2_b N kd wd b → nb_lit w (ne b) = nx_b nx en pP pD pE wd (sv_b hS wO) v b) := by
  obtain ⟨w, w1, w2, w3, w4⟩ := bi_w h
  have m := h.1
  have hW : ∀ t, t < N → cl_n wd t ≤ 6 := fun t ht => (hd t ht).2.2.2.2.1
  have ms := mg_st hW hN w2
  have sg := sg_sv hN hst hW
  have s1 : sl_s N kd ox oy oz wd fo (cl_n hS) (cl_n wO) (fun t => vw_n w eo t (cl_n wd t)) := by
    intro s hs
    rw [m.2.1.2.2.2 w w1 s hs]
    exact sp_cg (hd s hs) (fun q => (ms.1 s hs q).trans (sg.1 s hs)) (fun _ p hp => (ms.2 p hp).trans (sg.2 p hp)) (fun _ => rfl) (fun _ _ => rfl) (fun _ => rfl)
  have nxt := mg_nx hN hd hcn hpt m w1 w2 (sl_cv hN hd hst s1)
  exact ⟨w, _, w1, w3, w4, s1, fun t ht => nb_lt _ _, fun t ht => rfl, nxt.2⟩
theorem bi_ch2 {N : Nat} {kd ox oy oz wd fo nx en hS wO nO nW hS' wO' : Nat → Int32} {pP pD pE tc lV sE sE' : Int32} {c : ga_C} {eo so ne io tf tb : Nat → Int32} {vA sK : Nat → Int64}
    (h : bi_ok N kd ox oy oz wd fo nx en hS wO nO nW pP pD pE tc lV sE c eo so ne io tf tb vA sK)
    (h1 : ∀ b, b < 160 → st_b sK b = true → s2_b N kd wd b → sv_b hS wO b = fv_b oy b → sv_b hS' wO' b = fv_b oy b) (h2 : sE' ≠ 0 → sE ≠ 0 ∧ ∀ b, b < 160 → sv_b hS' wO' b = sv_b hS wO b) :
    bi_ok N kd ox oy oz wd fo nx en hS' wO' nO nW pP pD pE tc lV sE' c eo so ne io tf tb vA sK := by
  obtain ⟨m, st, cl, tl, w, w1, w2, w3⟩ := h
  refine ⟨m, fun b hb s => ⟨(st b hb s).1, h1 b hb s (st b hb s).1 (st b hb s).2.1, (st b hb s).2.2⟩, cl, tl, w, w1, w2, fun e b hb l => ?_⟩
  obtain ⟨e1, e2⟩ := h2 e
  rw [e2 b hb]
  exact w3 e1 b hb l
section
variable {sN sC sW pP pD pE tc lV bU pL wH sE : Int32} {kd ox oy oz wd fo su rd dp nx en hS wO nO nW eo so ne io td tf tb : Nat → Int32} {vA cH mK cA sK : Nat → Int64}
variable {c : ga_C}
theorem xt_tick {post : Int32 → SX → Prop} {N : Nat} (hN : N ≤ 24) (hsN : sN = nI N) (hd : ∀ t, t < N → df_s kd ox oy oz wd t) (hcn : cn_ok kd wd nx en N) (hpt : pt_ok wd pP pD pE N) (hst : st_ok wd N hS wO)
    (h : bi_ok N kd ox oy oz wd fo nx en hS wO nO nW pP pD pE tc lV 1 c eo so ne io tf tb vA sK)
    (K : ∀ (sE' : Int32) (v : Nat → Nat), (sE' = 0 ∨ sE' = 1) → sl_s N kd ox oy oz wd fo (cl_n hS) (cl_n wO) v → bi_ok N kd ox oy oz wd fo nx en (ov_f N kd (fun t => nI (nx_s nx en (cl_n hS) v t)) hS) (tw_f pP pD pE wO v) nO nW pP pD pE tc lV sE' c eo so ne io tf tb vA sK → st_ok wd N (ov_f N kd (fun t => nI (nx_s nx en (cl_n hS) v t)) hS) (tw_f pP pD pE wO v) →
      post (nI (ts_n kd (cl_n hS) (nx_s nx en (cl_n hS) v) N + tm_n pP pD pE (cl_n wO) v)) (sN, sC, sW, pP, pD, pE, c.1, tc, lV, bU, pL, wH, sE', kd, ox, oy, oz, wd, fo, su, rd, dp, nx, en, ov_f N kd (fun t => nI (nx_s nx en (cl_n hS) v t)) hS, tw_f pP pD pE wO v, nO, nW, c.2.1, c.2.2.1, c.2.2.2.1, c.2.2.2.2, eo, so, ne, io, td, tf, tb, vA, cH, mK, cA, sK)) : wpX_tick post (sN, sC, sW, pP, pD, pE, c.1, tc, lV, bU, pL, wH, 1, kd, ox, oy, oz, wd, fo, su, rd, dp, nx, en, hS, wO, nO, nW, c.2.1, c.2.2.1, c.2.2.2.1, c.2.2.2.2, eo, so, ne, io, td, tf, tb, vA, cH, mK, cA, sK) := by
  obtain ⟨w, v, w1, w2, w3, w4, w5, w6, w7⟩ := bi_v hN hd hcn hpt hst h
  obtain ⟨t1, t2, t3⟩ := tk_all hN hd hcn hpt hst w5
  unfold wpX_tick
  refine ⟨161, xt_4 (w := w) (df := df_b N kd wd nx en pP pD pE (sv_b hS wO) v) (hS0 := hS) (wO0 := wO) hN hsN hd w3 (fun b hb s2 => df_0 s2) (fun b hb s2 => by rw [w7 b hb s2, df_2 s2]) ?_ 161 0 hS wO (by omega) (by omega) (st_sv hst) (fun j hj => by simp) (fun _ _ => rfl) (fun _ _ => rfl)⟩
  intro hS' wO' sE' f1 f2 f3 f4 f5
  obtain ⟨e1, e2⟩ := t1 hS' wO' f1 f2 f3 f4
  rw [t3, e1, e2]
  rw [e1, e2] at f2
  refine K sE' v ?_ w4 (bi_ch2 h (fun b hb s s2 e => ?_) (fun z => ?_)) t2
  · rcases f5 with z | z
    · exact Or.inl z
    · exact Or.inr z.1
  · rw [f2 b hb, ← df_2 s2]
    exact h.2.2.1 (sv_b hS wO) v (fun b' hb' s' => (h.2.1 b' hb' s').2.1) (sl_cv hN hd hst w4) b hb s
  · rcases f5 with y | y
    · exact absurd y z
    · refine ⟨by decide, fun b hb => ?_⟩
      rw [f2 b hb, y.2 b hb]
      simp
end
theorem tk_eq {N : Nat} {kd wd nx en hS wO : Nat → Int32} {pP pD pE yd yw : Int32} {v v' : Nat → Nat} (hN : N ≤ 24) (hcn : cn_ok kd wd nx en N) (hpt : pt_ok wd pP pD pE N) (hy : pP = -1 ∨ (yd = pD ∧ yw = pE)) (hv : ∀ t, t < N → v' t = v t) :
    ov_f N kd (fun t => nI (nx_s nx en (cl_n hS) v' t)) hS = ov_f N kd (fun t => nI (nx_s nx en (cl_n hS) v t)) hS ∧ tw_f pP yd yw wO v' = tw_f pP pD pE wO v ∧ ts_n kd (cl_n hS) (nx_s nx en (cl_n hS) v') N = ts_n kd (cl_n hS) (nx_s nx en (cl_n hS) v) N ∧ tm_n pP yd yw (cl_n wO) v' = tm_n pP pD pE (cl_n wO) v := by
  refine ⟨?_, ?_, ?_, ?_⟩
  · funext t
    show (if t < N ∧ kd t = 2 then _ else _) = (if t < N ∧ kd t = 2 then _ else _)
    by_cases q : t < N ∧ kd t = 2
    · rw [if_pos q, if_pos q]
      exact congrArg nI (nx_cg hN hcn q.1 q.2 rfl hv)
    · rw [if_neg q, if_neg q]
  · funext p
    show (if p < 4 then _ else _) = (if p < 4 then _ else _)
    by_cases q : p < 4
    · rw [if_pos q, if_pos q]
      congr 1
      rcases hy with z | ⟨rfl, rfl⟩
      · unfold nx_m
        rw [if_pos z, if_pos z]
      · exact nm_cg hN hpt rfl hv
    · rw [if_neg q, if_neg q]
  · have key : ∀ n, n ≤ N → ts_n kd (cl_n hS) (nx_s nx en (cl_n hS) v') n = ts_n kd (cl_n hS) (nx_s nx en (cl_n hS) v) n := by
      intro n
      induction n with
      | zero => intro _; rfl
      | succ n ih =>
        intro hn
        show ts_n kd (cl_n hS) (nx_s nx en (cl_n hS) v') n + _ = ts_n kd (cl_n hS) (nx_s nx en (cl_n hS) v) n + _
        rw [ih (by omega)]
        congr 1
        by_cases q : kd n = 2
        · rw [if_pos q, if_pos q, nx_cg hN hcn (by omega) q rfl hv]
        · rw [if_neg q, if_neg q]
    exact key N (Nat.le_refl _)
  · rcases hy with z | ⟨rfl, rfl⟩
    · unfold tm_n
      rw [if_pos z, if_pos z]
    · rcases hpt with z | ⟨q, d, e, z1, z2, z3, z4, z5, z6, -⟩
      · unfold tm_n
        rw [if_pos z, if_pos z]
      · unfold tm_n
        rw [z1, z2, z3, nI_clamp (by omega), nI_clamp (by omega), nI_clamp (by omega), hv q z4, hv d z5, hv e z6]
theorem pt_y {wd : Nat → Int32} {pP pD pE yd yw : Int32} {N : Nat} (h : pt_ok wd pP pD pE N) (hy : pP = -1 ∨ (yd = pD ∧ yw = pE)) : pt_ok wd pP yd yw N := by
  rcases hy with z | ⟨rfl, rfl⟩
  · exact Or.inl z
  · exact h
theorem i_vc_peek {k : Nat} {u : SX} {v : SY} (I : i_Rel k u v) (hk : k + 5 ≤ 2560) (v1 : Int32) : wpX_peek (fun r u' => wpY_peek (fun r' v' => r' = r ∧ i_Rel (k + 5) u' v') v v1) u v1 := by
  refine zz_el (P := fun u v => wpX_peek (fun r u' => wpY_peek (fun r' v' => r' = r ∧ i_Rel (k + 5) u' v') v v1) u v1) ?_ I
  intro N sN sC sW pP pD pE nc tc lV bU pL wH sE yd yw kd ox oy oz wd fo su rd dp nx en hS wO nO nW la lb nl fl eo so ne io td tf tb vL tR mT vA cH mK cA sK h
  have h' := h
  obtain ⟨⟨a1, a2, a3, a4, a5, a6, a7, a8, a9, a10, a11⟩, h2, h3, h4, h5, h6⟩ := h'
  have rel : i_Rel (k + 5) (sN, sC, sW, pP, pD, pE, nc, tc, lV, bU, pL, wH, sE, kd, ox, oy, oz, wd, fo, su, rd, dp, nx, en, hS, wO, nO, nW, la, lb, nl, fl, eo, so, ne, io, td, tf, tb, vA, cH, mK, cA, sK) (sN, sC, sW, pP, yd, yw, kd, ox, oy, oz, wd, hS, nO, fo, vL, nx, en, wO, nW, tR, mT) := zz_mk h
  unfold wpX_peek
  by_cases hr : ∃ j, j < N ∧ v1 = nI j
  · obtain ⟨s, s1, rfl⟩ := hr
    refine sx_sig1 a2 a1 s1 (br_f (by decide) ?_)
    refine gl_settle a2 a1 a3 a4 a5 a6 (st_sv h2) (st_sv h3) a10 a8 h4.2.2.2.2 h4.1 h4.2.1 h4.2.2.2.1 h5 ?_
    intro c eo' so' ne' io' td' tf' tb' tc' vA' cH' mK' sK' b
    obtain ⟨w, v, w1, w2, w3, w4, w5, w6, w7⟩ := bi_v a2 a3 a5 a6 h2 b
    have d := a3 s s1
    refine ⟨cl_n wd s + 1, xp_18 (w := w) (by omega) d.2.2.2.2.1 d.2.2.1 (fun i hi => w2 s i s1 hi) ?_ (cl_n wd s + 1) 0 (by omega) (by omega)⟩
    unfold wpY_peek
    refine sy_sig1 a2 a1 s1 (br_f (by decide) ?_)
    refine yw_work (x1 := 0) (st := cl_n hS) (mem := cl_n wO) a2 a1 a3 a4 (fun t ht _ => ?_) h2.2 ?_
    · rw [if_pos rfl]
      exact ⟨(h2.1 t (by omega)).1, (h2.1 t (by omega)).2.2 ht⟩
    · intro vL' f1 f2
      refine ⟨vp_in_nI (by omega) (by omega), ?_, ?_⟩
      · rw [nI_clamp (by omega), (f1 s s1).1, w6 s s1, sl_u a3 (fun _ _ _ => rfl) (fun _ _ => rfl) f2 w4 s s1]
      · exact zz_mk ⟨⟨a1, a2, a3, a4, a5, a6, a7, a8, a9, a10, a11⟩, h2, h3, ⟨h4.1, Or.inr rfl, Or.inl rfl, Or.inr rfl, h4.2.2.2.2⟩, fun _ _ => ⟨rfl, b⟩, h6⟩
  · refine sx_sig0 a2 a1 hr (br_t rfl ?_)
    unfold wpY_peek
    exact sy_sig0 a2 a1 hr (br_t rfl ⟨rfl, rel⟩)
/-- X's ticks, while the reference's are carried along -/
theorem xc_26 {k T : Nat} {YC : (Int32 → SY → Prop) → Prop} (hT : T ≤ 40) : ∀ (dd q : Nat) (tot : Int32) (N : Nat) (sN sC sW pP pD pE nc tc lV bU pL wH sE yd yw : Int32) (kd ox oy oz wd fo su rd dp nx en hS wO nO nW la lb nl fl eo so ne io td tf tb : Nat → Int32) (vA cH mK cA sK : Nat → Int64),
    T < dd + q → q ≤ T → rl_ok N sN sC sW pP pD pE nc tc lV bU pL wH sE kd ox oy oz wd fo su rd dp nx en hS wO nO nW la lb nl fl eo so ne io tf tb vA cA sK yd yw →
    (∀ postY, (∀ vL tR mT, wY_clock_26 postY (nI T) (T + 1 - q) tot (nI q) sN sC sW pP yd yw kd ox oy oz wd hS nO fo vL nx en wO nW tR mT) → YC postY) → wX_clock_26 (fun r u' => YC (fun r' v' => r' = r ∧ i_Rel (k + 5) u' v')) (nI T) dd tot (nI q) sN sC sW pP pD pE nc tc lV bU pL wH sE kd ox oy oz wd fo su rd dp nx en hS wO nO nW la lb nl fl eo so ne io td tf tb vA cH mK cA sK := by
  intro dd
  induction dd with
  | zero => intro q tot N sN sC sW pP pD pE nc tc lV bU pL wH sE yd yw kd ox oy oz wd fo su rd dp nx en hS wO nO nW la lb nl fl eo so ne io td tf tb vA cH mK cA sK h1 h2; omega
  | succ dd ih =>
    intro q tot N sN sC sW pP pD pE nc tc lV bU pL wH sE yd yw kd ox oy oz wd fo su rd dp nx en hS wO nO nW la lb nl fl eo so ne io td tf tb vA cH mK cA sK e1 e2 h YR
    have h' := h
    obtain ⟨⟨a1, a2, a3, a4, a5, a6, a7, a8, a9, a10, a11⟩, h2, h3, h4, h5, h6⟩ := h'
    unfold wX_clock_26
    refine pk_le T q (fun hle => ?_) (fun hlt => ?_)
    · refine YR _ (fun vL tR mT => ?_)
      rw [show T + 1 - q = 0 + 1 from by omega]
      unfold wY_clock_26
      exact br_t (nI_le hle (by omega)) ⟨rfl, zz_mk h⟩
    · refine gl_settle a2 a1 a3 a4 a5 a6 (st_sv h2) (st_sv h3) a10 a8 h4.2.2.2.2 h4.1 h4.2.1 h4.2.2.2.1 h5 ?_
      intro c eo' so' ne' io' td' tf' tb' tc' vA' cH' mK' sK' b
      refine xt_tick a2 a1 a3 a5 a6 h2 b ?_
      intro sE' v hse w4 b' st'
      intro y1 ey1
      intro y2 ey2
      have e3 := ey2.trans (nI_1 q)
      subst e3 ey1
      refine ih (q + 1) _ N sN sC sW pP pD pE c.1 tc' lV 1 0 0 sE' yd yw kd ox oy oz wd fo su rd dp nx en _ _ nO nW c.2.1 c.2.2.1 c.2.2.2.1 c.2.2.2.2 eo' so' ne' io' td' tf' tb' vA' cH' mK' cA sK' (by omega) (by omega) ⟨⟨a1, a2, a3, a4, a5, a6, a7, a8, a9, a10, a11⟩, st', h3, ⟨h4.1, Or.inr rfl, Or.inl rfl, hse, h4.2.2.2.2⟩, fun _ _ => ⟨rfl, b'⟩, h6⟩ ?_
      intro postY hY
      refine YR postY (fun vL tR mT => ?_)
      rw [show T + 1 - q = (T - q) + 1 from by omega]
      unfold wY_clock_26
      refine br_f (nI_ge hlt (by omega)) ?_
      refine yt_tick a2 a1 a3 a4 a5 (pt_y a6 h6) h2 ?_
      intro vL' f2
      have uq : ∀ t, t < N → cl_n vL' t = v t := sl_u a3 (fun _ _ _ => rfl) (fun _ _ => rfl) f2 w4
      obtain ⟨k1, k2, k3, k4⟩ := tk_eq (hS := hS) (wO := wO) a2 a5 a6 h6 uq
      rw [k1, k2, k3, k4]
      intro z1 ez1
      intro z2 ez2
      have e4 := ez2.trans (nI_1 q)
      subst e4 ez1
      have kk := hY vL' tR mT
      rw [show T + 1 - (q + 1) = T - q from by omega] at kk
      exact kk
theorem i_vc_clock {k : Nat} {u : SX} {v : SY} (I : i_Rel k u v) (hk : k + 5 ≤ 2560) (v1 : Int32) : wpX_clock (fun r u' => wpY_clock (fun r' v' => r' = r ∧ i_Rel (k + 5) u' v') v v1) u v1 := by
  refine zz_el (P := fun u v => wpX_clock (fun r u' => wpY_clock (fun r' v' => r' = r ∧ i_Rel (k + 5) u' v') v v1) u v1) ?_ I
  intro N sN sC sW pP pD pE nc tc lV bU pL wH sE yd yw kd ox oy oz wd fo su rd dp nx en hS wO nO nW la lb nl fl eo so ne io td tf tb vL tR mT vA cH mK cA sK h
  have go : ∀ T, T ≤ 40 → (∀ postY : Int32 → SY → Prop, (∃ n, wY_clock_26 postY (nI T) n 0 0 sN sC sW pP yd yw kd ox oy oz wd hS nO fo vL nx en wO nW tR mT) → wpY_clock postY (sN, sC, sW, pP, yd, yw, kd, ox, oy, oz, wd, hS, nO, fo, vL, nx, en, wO, nW, tR, mT) v1) → ∃ n26, wX_clock_26 (fun r u' => wpY_clock (fun r' v' => r' = r ∧ i_Rel (k + 5) u' v') (sN, sC, sW, pP, yd, yw, kd, ox, oy, oz, wd, hS, nO, fo, vL, nx, en, wO, nW, tR, mT) v1) (nI T) n26 0 0 sN sC sW pP pD pE nc tc lV bU pL wH sE kd ox oy oz wd fo su rd dp nx en hS wO nO nW la lb nl fl eo so ne io td tf tb vA cH mK cA sK := by
    intro T hT hY
    refine ⟨T + 1, xc_26 (k := k) (YC := fun postY => wpY_clock postY (sN, sC, sW, pP, yd, yw, kd, ox, oy, oz, wd, hS, nO, fo, vL, nx, en, wO, nW, tR, mT) v1) hT (T + 1) 0 0 N sN sC sW pP pD pE nc tc lV bU pL wH sE yd yw kd ox oy oz wd fo su rd dp nx en hS wO nO nW la lb nl fl eo so ne io td tf tb vA cH mK cA sK (by omega) (by omega) h (fun postY hp => hY postY ⟨T + 1, hp vL tR mT⟩)⟩
  unfold wpX_clock
  refine br_c (fun p0 => ?_) (fun p0 => ?_)
  · obtain ⟨T, t1, rfl⟩ := nI_of (x := v1) (Int32.not_lt.mpr p0)
    refine pk_le T 40 (fun l => ?_) (fun l => ?_)
    · refine go T l (fun postY hy => ?_)
      unfold wpY_clock
      exact br_t p0 (br_t (nI_le (b := 40) l (by omega)) hy)
    · refine go 40 (by omega) (fun postY hy => ?_)
      unfold wpY_clock
      exact br_t p0 (br_f (nI_ge (a := 40) l t1) hy)
  · refine go 0 (by omega) (fun postY hy => ?_)
    unfold wpY_clock
    exact br_f p0 hy
end
section
/-! the constructors -/
section
variable {sN sC sW pP pD pE nc tc lV bU pL wH sE : Int32} {kd ox oy oz wd fo su rd dp nx en hS wO nO nW la lb nl fl eo so ne io td tf tb : Nat → Int32} {vA cH mK sK : Nat → Int64}
theorem in_280 {post : SX → Prop} {J : Int32 → (Nat → Int32) → (Nat → Int32) → (Nat → Int32) → (Nat → Int32) → (Nat → Int32) → (Nat → Int32) → (Nat → Int32) → (Nat → Int32) → (Nat → Int32) → (Nat → Int32) → (Nat → Int32) → (Nat → Int32) → (Nat → Int32) → (Nat → Int32) → (Nat → Int32) → (Nat → Int32) → (Nat → Int32) → (Nat → Int32) → (Nat → Int32) → (Nat → Int32) → (Nat → Int32) → (Nat → Int32) → (Nat → Int32) → (Nat → Int32) → (Nat → Int32) → (Nat → Int32) → (Nat → Int64) → (Nat → Int64) → (Nat → Int64) → (Nat → Int64) → (Nat → Int64) → Prop} {k : Nat} {cA0 : Nat → Int64} (hk : k < 6)
    (K : ∀ cA', (∀ j, j < 64 → (cA' k).toBitVec.getLsbD j = j.testBit k) → (∀ k', k' ≠ k → cA' k' = cA0 k') → J (nI (k + 1)) kd ox oy oz wd fo su rd dp nx en hS wO nO nW la lb nl fl eo so ne io td tf tb vA cH mK cA' sK) :
    ∀ (d i : Nat) (cA : Nat → Int64), 64 < d + i → i ≤ 64 → (∀ j, j < 64 → (cA k).toBitVec.getLsbD j = (decide (j < i) && j.testBit k)) → (∀ k', k' ≠ k → cA k' = cA0 k') → wX_init_280 post J (nI k) sN sC sW pP pD pE nc tc lV bU pL wH sE d (nI i) kd ox oy oz wd fo su rd dp nx en hS wO nO nW la lb nl fl eo so ne io td tf tb vA cH mK cA sK := by
  have hin : vp_in (nI k) 6 := vp_in_nI hk (by omega)
  have hc : (nI k).toNatClampNeg = k := nI_clamp (by omega)
  intro d
  induction d with
  | zero => intro i cA h1 h2; omega
  | succ d ih =>
    intro i cA h1 h2 hI hu
    unfold wX_init_280
    refine pk_le 64 i (fun hle => ?_) (fun hlt => ?_)
    · have e : i = 64 := by omega
      subst e
      intro y ey
      have e2 := ey.trans (nI_1 k)
      subst e2
      exact K cA (fun j hj => by rw [hI j hj]; simp [hj]) hu
    · rw [bx_sh (by omega) (by omega)]
      cases q : i.testBit k
      · refine br_t rfl ?_
        intro y ey
        have e2 := ey.trans (nI_1 i)
        subst e2
        refine ih (i + 1) cA (by omega) (by omega) (fun j hj => ?_) hu
        rw [hI j hj]
        by_cases e : j = i
        · rw [e, q]; simp
        · have e1 : (decide (j < i)) = decide (j < i + 1) := by
            by_cases z : j < i
            · simp [z, show j < i + 1 from by omega]
            · simp [z, show ¬ j < i + 1 from by omega]
          rw [e1]
      · refine br_f (by decide) ⟨hin, hin, ?_⟩
        intro c' ec
        rw [hc] at ec
        intro y ey
        have e2 := ey.trans (nI_1 i)
        subst e2
        refine ih (i + 1) c' (by omega) (by omega) (fun j hj => ?_) (fun k' hk' => by rw [ec, pk_uLn hk']; exact hu k' hk')
        rw [ec, pk_uLs, Int64.toBitVec_or, BitVec.getLsbD_or, bx_one hlt hj, hI j hj]
        by_cases e : j = i
        · rw [e, q]; simp
        · have e1 : (decide (j < i)) = decide (j < i + 1) := by
            by_cases z : j < i
            · simp [z, show j < i + 1 from by omega]
            · simp [z, show ¬ j < i + 1 from by omega]
          rw [e1]; simp [e]
theorem in_272 {post : SX → Prop} (K : ∀ cA', ca_ok cA' → post (sN, sC, sW, pP, pD, pE, nc, tc, lV, bU, pL, wH, sE, kd, ox, oy, oz, wd, fo, su, rd, dp, nx, en, hS, wO, nO, nW, la, lb, nl, fl, eo, so, ne, io, td, tf, tb, vA, cH, mK, cA', sK)) :
    ∀ (d k : Nat) (cA : Nat → Int64), 6 < d + k → k ≤ 6 → (∀ k' j, k' < k → j < 64 → (cA k').toBitVec.getLsbD j = j.testBit k') → (∀ k', k ≤ k' → cA k' = 0) → wX_init_272 post sN sC sW pP pD pE nc tc lV bU pL wH sE d (nI k) kd ox oy oz wd fo su rd dp nx en hS wO nO nW la lb nl fl eo so ne io td tf tb vA cH mK cA sK := by
  intro d
  induction d with
  | zero => intro k cA h1 h2; omega
  | succ d ih =>
    intro k cA h1 h2 hI hz
    unfold wX_init_272
    refine pk_le 6 k (fun hle => ?_) (fun hlt => ?_)
    · exact K cA (fun i j hi hj => hI i j (by omega) hj)
    · refine ⟨65, in_280 (cA0 := cA) hlt ?_ 65 0 cA (by omega) (by omega) (fun j hj => ?_) (fun _ _ => rfl)⟩
      · intro c' f1 f2
        refine ih (k + 1) c' (by omega) (by omega) (fun k' j h3 h4 => ?_) (fun k' h3 => ?_)
        · by_cases e : k' = k
          · rw [e]; exact f1 j h4
          · rw [f2 k' e]; exact hI k' j (by omega) h4
        · rw [f2 k' (by omega)]; exact hz k' (by omega)
      · rw [hz k (Nat.le_refl _)]
        show (0#64).getLsbD j = _
        simp
end
theorem i_vc0 : wpX_init (fun u => wpY_init (fun v => i_Rel 0 u v)) := by
  unfold wpX_init
  refine ⟨7, in_272 ?_ 7 0 (fun _ => 0) (by omega) (by omega) (fun k' j h => by omega) (fun _ _ => rfl)⟩
  intro cA' hc
  unfold wpY_init
  have z0 : st_ok (fun _ => 0) 0 (fun _ => 0) (fun _ => 0) := ⟨fun s hs => ⟨rfl, (by decide : (0 : Nat) < 64), fun h => by omega⟩, fun p hp => ⟨rfl, (by decide : (0 : Nat) < 16)⟩⟩
  refine zz_mk (N := 0) ⟨⟨rfl, by omega, fun t ht => by omega, fun t ht => by omega, fun t ht => by omega, Or.inl rfl, rfl, by decide, rfl, by decide, fun t ht => by omega⟩, z0, z0, ⟨Or.inr (Or.inr rfl), Or.inl rfl, Or.inl rfl, Or.inl rfl, hc⟩, fun b => absurd b (by decide), Or.inl rfl⟩
end
section
/-! depth -/
section
variable {yn yc yh yp yd yw : Int32} {ki eX eY eZ wi sT nT fR vL nX eN mE nM tR mT : Nat → Int32}
theorem yd_usesX {post : Int32 → Prop} {s k : Nat} (hs : s < 24) (hk : ki s = nI k) (hk18 : k ≤ 18) (k0 : k < 3 → post 0) (k1 : 3 ≤ k → post 1) : wpY_usesX post (yn, yc, yh, yp, yd, yw, ki, eX, eY, eZ, wi, sT, nT, fR, vL, nX, eN, mE, nM, tR, mT) (nI s) := by
  unfold wpY_usesX
  exact ⟨vp_in_nI hs (by omega), pk_lt k 3 k0 k1 (by rw [nI_clamp (by omega)]; exact hk)⟩
theorem yd_usesY {post : Int32 → Prop} {s k : Nat} (hs : s < 24) (hk : ki s = nI k) (hk18 : k ≤ 18) (k0 : ¬ (4 ≤ k ∧ k ≤ 15) → post 0) (k1 : 4 ≤ k → k ≤ 15 → post 1) : wpY_usesY post (yn, yc, yh, yp, yd, yw, ki, eX, eY, eZ, wi, sT, nT, fR, vL, nX, eN, mE, nM, tR, mT) (nI s) := by
  have hin : vp_in (nI s) 24 := vp_in_nI hs (by omega)
  have e : ki (nI s).toNatClampNeg = nI k := by rw [nI_clamp (by omega)]; exact hk
  unfold wpY_usesY
  exact ⟨hin, pk_lt k 4 (fun h => k0 (by omega)) (fun h => ⟨hin, pk_lt 15 k (fun h2 => k0 (by omega)) (fun h2 => k1 h h2) rfl e⟩) e⟩
end
section
variable {yn yc yh yp yd yw : Int32} {ki eX eY eZ wi sT nT fR vL nX eN mE nM mT : Nat → Int32}
theorem yd_112 {post : Int32 → SY → Prop} {J : Int32 → (Nat → Int32) → (Nat → Int32) → (Nat → Int32) → (Nat → Int32) → (Nat → Int32) → (Nat → Int32) → (Nat → Int32) → (Nat → Int32) → (Nat → Int32) → (Nat → Int32) → (Nat → Int32) → (Nat → Int32) → (Nat → Int32) → (Nat → Int32) → (Nat → Int32) → Prop} {x1 : Int32} {s k m : Nat} {tR : Nat → Int32} (hs : s < 24) (hk : ki s = nI k) (hk18 : k ≤ 18) (K : J (nI (s + 1)) ki eX eY eZ wi sT nT fR vL nX eN mE nM (upd tR s (nI (if k < 3 then 0 else m + 1))) mT) : wY_depth_112 post J x1 (nI s) (nI m) yn yc yh yp yd yw ki eX eY eZ wi sT nT fR vL nX eN mE nM tR mT := by
  have hin : vp_in (nI s) 24 := vp_in_nI hs (by omega)
  have hc : (nI s).toNatClampNeg = s := nI_clamp (by omega)
  unfold wY_depth_112
  refine yd_usesX hs hk hk18 (fun h => br_t rfl ⟨hin, ?_⟩) (fun h => br_f (by decide) ⟨hin, ?_⟩)
  · intro t' et
    rw [hc] at et
    intro y hy
    have e2 := hy.trans (nI_1 s)
    subst e2 et
    rw [if_pos h] at K
    exact K
  · intro t' et
    rw [hc, nI_1] at et
    intro y hy
    have e2 := hy.trans (nI_1 s)
    subst e2 et
    rw [if_neg (by omega)] at K
    exact K
theorem yd_74 {post : Int32 → SY → Prop} {J : Int32 → (Nat → Int32) → (Nat → Int32) → (Nat → Int32) → (Nat → Int32) → (Nat → Int32) → (Nat → Int32) → (Nat → Int32) → (Nat → Int32) → (Nat → Int32) → (Nat → Int32) → (Nat → Int32) → (Nat → Int32) → (Nat → Int32) → (Nat → Int32) → (Nat → Int32) → Prop} {x1 : Int32} {s k m z : Nat} {tR : Nat → Int32} (hs : s < 24) (hk : ki s = nI k) (hk18 : k ≤ 18) (hm : m < 100) (hz : k = 12 → ∃ o, o < 24 ∧ eZ s = nI o ∧ tR o = nI z ∧ z < 100)
    (K : J (nI (s + 1)) ki eX eY eZ wi sT nT fR vL nX eN mE nM (upd tR s (nI (if k < 3 then 0 else max m (if k = 12 then z else 0) + 1))) mT) : wY_depth_74 post J x1 (nI s) (nI m) yn yc yh yp yd yw ki eX eY eZ wi sT nT fR vL nX eN mE nM tR mT := by
  have hin : vp_in (nI s) 24 := vp_in_nI hs (by omega)
  have hc : (nI s).toNatClampNeg = s := nI_clamp (by omega)
  unfold wY_depth_74
  refine ⟨hin, ?_⟩
  rw [hc]
  refine pk_eq k 12 (fun h => ⟨hin, ?_⟩) (fun h => ?_) hk
  · obtain ⟨o, o1, o2, o3, o4⟩ := hz h
    rw [if_pos h] at K
    rw [o2]
    refine ⟨vp_in_nI o1 (by omega), ?_⟩
    rw [nI_clamp (by omega), o3]
    refine pk_le z m (fun l => ?_) (fun l => ⟨hin, vp_in_nI o1 (by omega), ?_⟩)
    · rw [show max m z = m from by omega] at K
      exact yd_112 hs hk hk18 K
    · intro x hx
      subst hx
      rw [show max m z = z from by omega] at K
      exact yd_112 hs hk hk18 K
  · rw [if_neg h, show max m 0 = m from by omega] at K
    exact yd_112 hs hk hk18 K
theorem yd_39 {post : Int32 → SY → Prop} {J : Int32 → (Nat → Int32) → (Nat → Int32) → (Nat → Int32) → (Nat → Int32) → (Nat → Int32) → (Nat → Int32) → (Nat → Int32) → (Nat → Int32) → (Nat → Int32) → (Nat → Int32) → (Nat → Int32) → (Nat → Int32) → (Nat → Int32) → (Nat → Int32) → (Nat → Int32) → Prop} {x1 : Int32} {s k m y z : Nat} {tR : Nat → Int32} (hs : s < 24) (hk : ki s = nI k) (hk18 : k ≤ 18) (hm : m < 100) (hy : 4 ≤ k → k ≤ 15 → ∃ o, o < 24 ∧ eY s = nI o ∧ tR o = nI y ∧ y < 100) (hz : k = 12 → ∃ o, o < 24 ∧ eZ s = nI o ∧ tR o = nI z ∧ z < 100)
    (K : J (nI (s + 1)) ki eX eY eZ wi sT nT fR vL nX eN mE nM (upd tR s (nI (if k < 3 then 0 else max (max m (if 4 ≤ k ∧ k ≤ 15 then y else 0)) (if k = 12 then z else 0) + 1))) mT) : wY_depth_39 post J x1 (nI s) (nI m) yn yc yh yp yd yw ki eX eY eZ wi sT nT fR vL nX eN mE nM tR mT := by
  have hin : vp_in (nI s) 24 := vp_in_nI hs (by omega)
  have hc : (nI s).toNatClampNeg = s := nI_clamp (by omega)
  unfold wY_depth_39
  refine yd_usesY hs hk hk18 (fun h => br_t rfl ?_) (fun h1 h2 => br_f (by decide) ⟨hin, ?_⟩)
  · rw [if_neg h, show max m 0 = m from by omega] at K
    exact yd_74 hs hk hk18 hm hz K
  · obtain ⟨o, o1, o2, o3, o4⟩ := hy h1 h2
    rw [if_pos (show 4 ≤ k ∧ k ≤ 15 from ⟨h1, h2⟩)] at K
    rw [hc, o2]
    refine ⟨vp_in_nI o1 (by omega), ?_⟩
    rw [nI_clamp (by omega), o3]
    refine pk_le y m (fun l => ?_) (fun l => ⟨hin, vp_in_nI o1 (by omega), ?_⟩)
    · rw [show max m y = m from by omega] at K
      exact yd_74 hs hk hk18 hm hz K
    · intro x hx
      subst hx
      rw [show max m y = y from by omega] at K
      exact yd_74 hs hk hk18 o4 hz K
theorem yd_12 {post : Int32 → SY → Prop} {N s : Nat} {su rd dp : Nat → Int32} (hN : N ≤ 24) (hs : s < N) (hd : ∀ t, t < N → df_s ki eX eY eZ wi t) (hl : ∀ t, t < N → lk_s ki eX eY eZ su rd dp t)
    (K : ∀ tR', tR' s = dp s → post (dp s) (yn, yc, yh, yp, yd, yw, ki, eX, eY, eZ, wi, sT, nT, fR, vL, nX, eN, mE, nM, tR', mT)) :
    ∀ (d q : Nat) (tR : Nat → Int32), s + 1 < d + q → q ≤ s + 1 → (∀ t, t < q → tR t = dp t) → wY_depth_12 post (nI s) yn yc yh yp yd yw d (nI q) ki eX eY eZ wi sT nT fR vL nX eN mE nM tR mT := by
  intro d
  induction d with
  | zero => intro q tR h1 h2; omega
  | succ d ih =>
    intro q tR h1 h2 hI
    unfold wY_depth_12
    refine pk_lt s q (fun hlt => ?_) (fun hle => ?_)
    · refine ⟨vp_in_nI (by omega) (by omega), ?_⟩
      have e := hI s hlt
      rw [nI_clamp (by omega), e]
      exact K tR e
    · have dq := hd q (by omega)
      have lq := hl q (by omega)
      have hin : vp_in (nI q) 24 := vp_in_nI (by omega) (by omega)
      have hc : (nI q).toNatClampNeg = q := nI_clamp (by omega)
      have dpl : ∀ o, o < q → tR o = nI (cl_n dp o) ∧ cl_n dp o < 100 := fun o ho => by
        have l := hl o (by omega)
        rw [hI o ho]
        exact ⟨l.2.2.2.1, by have := l.2.2.2.2.1; omega⟩
      have oy : 4 ≤ cl_n ki q → cl_n ki q ≤ 15 → ∃ o, o < 24 ∧ eY q = nI o ∧ tR o = nI (cl_n dp (cl_n eY q)) ∧ cl_n dp (cl_n eY q) < 100 := fun z1 z2 => by
        have y := dq.2.2.2.2.2.2.1 z1 z2
        exact ⟨cl_n eY q, by omega, y.1, dpl _ y.2⟩
      have oz : cl_n ki q = 12 → ∃ o, o < 24 ∧ eZ q = nI o ∧ tR o = nI (cl_n dp (cl_n eZ q)) ∧ cl_n dp (cl_n eZ q) < 100 := fun z1 => by
        have y := dq.2.2.2.2.2.2.2.1 z1
        exact ⟨cl_n eZ q, by omega, y.1, dpl _ y.2⟩
      have next : ∀ x : Int32, x = dp q → wY_depth_12 post (nI s) yn yc yh yp yd yw d (nI (q + 1)) ki eX eY eZ wi sT nT fR vL nX eN mE nM (upd tR q x) mT := by
        intro x hx
        refine ih (q + 1) _ (by omega) (by omega) (fun t ht => ?_)
        by_cases e : t = q
        · rw [e, pk_us]; exact hx
        · rw [pk_un e]; exact hI t (by omega)
      refine yd_usesX (by omega) dq.1 dq.2.1 (fun h => br_t rfl ?_) (fun h => br_f (by decide) ⟨hin, ?_⟩)
      · refine yd_39 (m := 0) (Nat.lt_of_le_of_lt hle (Nat.lt_of_lt_of_le hs hN)) dq.1 dq.2.1 (by decide) oy oz (next _ ?_)
        rw [lq.2.2.2.1, lq.2.2.2.2.2, if_pos h, if_pos h]
      · have x := dq.2.2.2.2.2.1 h
        rw [hc, x.1]
        refine ⟨vp_in_nI (by omega) (by omega), ?_⟩
        intro x' hx'
        rw [nI_clamp (by omega), (dpl _ x.2).1] at hx'
        subst hx'
        refine yd_39 (Nat.lt_of_le_of_lt hle (Nat.lt_of_lt_of_le hs hN)) dq.1 dq.2.1 (dpl _ x.2).2 oy oz (next _ ?_)
        rw [lq.2.2.2.1, lq.2.2.2.2.2, if_neg (Nat.not_lt.mpr h)]
end
theorem i_vc_depth {k : Nat} {u : SX} {v : SY} (I : i_Rel k u v) (hk : k + 5 ≤ 2560) (v1 : Int32) : wpX_depth (fun r => wpY_depth (fun r' v' => r' = r ∧ i_Rel (k + 5) u v') v v1) u v1 := by
  refine zz_el (P := fun u v => wpX_depth (fun r => wpY_depth (fun r' v' => r' = r ∧ i_Rel (k + 5) u v') v v1) u v1) ?_ I
  intro N sN sC sW pP pD pE nc tc lV bU pL wH sE yd yw kd ox oy oz wd fo su rd dp nx en hS wO nO nW la lb nl fl eo so ne io td tf tb vL tR mT vA cH mK cA sK h
  have h' := h
  obtain ⟨⟨a1, a2, a3, a4, a5, a6, a7, a8, a9, a10, a11⟩, h2, h3, h4, h5, h6⟩ := h'
  unfold wpX_depth
  by_cases hr : ∃ j, j < N ∧ v1 = nI j
  · obtain ⟨s, s1, rfl⟩ := hr
    refine sx_sig1 a2 a1 s1 (br_f (by decide) ⟨vp_in_nI (by omega) (by omega), ?_⟩)
    rw [nI_clamp (by omega)]
    unfold wpY_depth
    refine sy_sig1 a2 a1 s1 (br_f (by decide) ?_)
    exact ⟨s + 2, yd_12 a2 s1 a3 a11 (fun tR' e => ⟨rfl, zz_mk h⟩) (s + 2) 0 tR (by omega) (by omega) (fun t ht => by omega)⟩
  · refine sx_sig0 a2 a1 hr (br_t rfl ?_)
    unfold wpY_depth
    exact sy_sig0 a2 a1 hr (br_t rfl ⟨rfl, zz_mk h⟩)
end
section
/-! whether operands fit; widths; costs -/
def ft_p (N : Nat) (wd : Nat → Int32) (k : Nat) (x y z : Int32) : Prop :=
  (k = 1 ∨ k = 2 → ∃ W m, x = nI W ∧ 1 ≤ W ∧ W ≤ 6 ∧ y = nI m ∧ m < 2 ^ W) ∧
  (3 ≤ k → ∃ a, a < N ∧ x = nI a ∧ (k = 18 → wd a = 2) ∧ (k = 16 → ∃ b w, y = nI b ∧ z = nI w ∧ 1 ≤ w ∧ b + w ≤ cl_n wd a) ∧
    (4 ≤ k → k ≤ 15 → ∃ b, b < N ∧ y = nI b ∧ (k = 13 ∨ k = 14 → wd b = 2) ∧ (k = 12 → wd a = 1 ∧ ∃ e, e < N ∧ z = nI e ∧ wd e = wd b) ∧ (k ≤ 11 → wd a = wd b ∧ (k = 9 → cl_n wd a ≤ 3))))
theorem ft_12 {N : Nat} {wd : Nat → Int32} {k : Nat} {x y z : Int32} (h : k = 1 ∨ k = 2) : ft_p N wd k x y z ↔ ∃ W m, x = nI W ∧ 1 ≤ W ∧ W ≤ 6 ∧ y = nI m ∧ m < 2 ^ W :=
  ⟨fun f => f.1 h, fun f => ⟨fun _ => f, fun q => by omega⟩⟩
section
variable {sN sC sW pP pD pE nc tc lV bU pL wH sE : Int32} {kd ox oy oz wd fo su rd dp nx en hS wO nO nW la lb nl fl eo so ne io td tf tb : Nat → Int32} {vA cH mK cA sK : Nat → Int64}
theorem fx_16 {post : Int32 → Prop} {x y : Int32} (k1 : (∃ W m, x = nI W ∧ 1 ≤ W ∧ W ≤ 6 ∧ y = nI m ∧ m < 2 ^ W) → post 1) (k0 : ¬ (∃ W m, x = nI W ∧ 1 ≤ W ∧ W ≤ 6 ∧ y = nI m ∧ m < 2 ^ W) → post 0) : wX_operandsFit_16 post x y sN sC sW pP pD pE nc tc lV bU pL wH sE kd ox oy oz wd fo su rd dp nx en hS wO nO nW la lb nl fl eo so ne io td tf tb vA cH mK cA sK := by
  unfold wX_operandsFit_16
  by_cases q : ∃ W, W < 7 ∧ x = nI W
  · obtain ⟨W, w1, rfl⟩ := q
    have h2 : (2 : Nat) ^ W ≤ 2 ^ 6 := Nat.pow_le_pow_right (by decide) (by omega)
    have e : (1 : Int32) <<< (nI W &&& 31) = nI (2 ^ W) := by
      rw [show (1 : Int32) <<< (nI W &&& 31) = nI (1 * 2 ^ W) from pk_shlN (n := 1) (nI W &&& 31) W (s_l W (by omega)) (by omega), Nat.one_mul]
    refine pk_lt W 1 (fun l => k0 ?_) (fun l => br_f (nI_nlt (a := 6) (by omega) (by omega)) ?_)
    · rintro ⟨V, m, e1, e2, e3, e4, e5⟩
      rw [nI_eq (by omega) (by omega)] at e1
      omega
    · rw [e]
      by_cases q2 : ∃ m, m < 2 ^ W ∧ y = nI m
      · obtain ⟨m, m1, rfl⟩ := q2
        exact br_f (nI_pos (by omega)) (br_f (nI_ge m1 (by omega)) (k1 ⟨W, m, rfl, l, by omega, rfl, m1⟩))
      · have nn : ¬ (∃ W' m, nI W = nI W' ∧ 1 ≤ W' ∧ W' ≤ 6 ∧ y = nI m ∧ m < 2 ^ W') := by
          rintro ⟨V, m, e1, e2, e3, e4, e5⟩
          rw [nI_eq (by omega) (by omega)] at e1
          subst e1
          exact q2 ⟨m, e5, e4⟩
        rcases ix_no (by omega) q2 with z | ⟨z1, z2⟩
        · exact br_t z (k0 nn)
        · exact br_f z1 (br_t z2 (k0 nn))
  · have nn : ¬ (∃ W m, x = nI W ∧ 1 ≤ W ∧ W ≤ 6 ∧ y = nI m ∧ m < 2 ^ W) := by
      rintro ⟨V, m, e1, e2, e3, e4, e5⟩
      exact q ⟨V, by omega, e1⟩
    rcases ix_no (by omega) q with z | ⟨z1, z2⟩
    · exact br_t (Int32.lt_trans z (by decide)) (k0 nn)
    · have l6 : (6 : Int32) < x := Int32.lt_of_lt_of_le (by decide : (6 : Int32) < nI 7) z2
      exact br_f (fun y => z1 (by
        have : x < x := Int32.lt_trans (Int32.lt_trans y (by decide : (1 : Int32) < 6)) l6
        exact absurd this (fun w => Int32.lt_irrefl w))) (br_t l6 (k0 nn))
theorem fx_fit {post : Int32 → Prop} {N k : Nat} {x y z : Int32} (hN : N ≤ 24) (hsN : sN = nI N) (hd : ∀ t, t < N → df_s kd ox oy oz wd t) (hk : k ≤ 18) (k1 : ft_p N wd k x y z → post 1) (k0 : ¬ ft_p N wd k x y z → post 0) : wpX_operandsFit post (sN, sC, sW, pP, pD, pE, nc, tc, lV, bU, pL, wH, sE, kd, ox, oy, oz, wd, fo, su, rd, dp, nx, en, hS, wO, nO, nW, la, lb, nl, fl, eo, so, ne, io, td, tf, tb, vA, cH, mK, cA, sK) (nI k) x y z := by
  unfold wpX_operandsFit
  refine pk_eq k 0 (fun e => k1 ⟨fun h => by omega, fun h => by omega⟩) (fun n0 => pk_eq k 1 (fun e => ?_) (fun n1 => pk_eq k 2 (fun e => ?_) (fun n2 => ?_)))
  · exact fx_16 (fun f => k1 ((ft_12 (Or.inl e)).mpr f)) (fun f => k0 (fun g => f ((ft_12 (Or.inl e)).mp g)))
  · exact fx_16 (fun f => k1 ((ft_12 (Or.inr e)).mpr f)) (fun f => k0 (fun g => f ((ft_12 (Or.inr e)).mp g)))
  have k3 : 3 ≤ k := by omega
  by_cases qx : ∃ a, a < N ∧ x = nI a
  · obtain ⟨a, a1, rfl⟩ := qx
    have ain : vp_in (nI a) 24 := vp_in_nI (by omega) (by omega)
    have ac : (nI a).toNatClampNeg = a := nI_clamp (by omega)
    have da := hd a a1
    have au : ∀ a', a' < N → nI a = nI a' → a' = a := fun a' h e => by
      rw [nI_eq (by omega) (by omega)] at e; exact e.symm
    refine sx_sig1 hN hsN a1 (br_f (by decide) ?_)
    refine pk_eq k 3 (fun e => k1 ⟨fun h => by omega, fun _ => ⟨a, a1, rfl, fun h => by omega, fun h => by omega, fun h => by omega⟩⟩) (fun n3 => pk_eq k 17 (fun e => k1 ⟨fun h => by omega, fun _ => ⟨a, a1, rfl, fun h => by omega, fun h => by omega, fun h h2 => by omega⟩⟩) (fun n17 => pk_eq k 18 (fun e => ⟨ain, ?_⟩) (fun n18 => pk_eq k 16 (fun e => ?_) (fun n16 => ?_))))
    · rw [ac]
      refine br_c (fun w => k1 ⟨fun h => by omega, fun _ => ⟨a, a1, rfl, fun _ => w, fun h => by omega, fun h h2 => by omega⟩⟩) (fun w => k0 ?_)
      rintro ⟨-, f⟩
      obtain ⟨a', b1, b2, b3, -⟩ := f k3
      rw [au a' b1 b2] at b3
      exact w (b3 e)
    · have no : ¬ (∃ b w, y = nI b ∧ z = nI w ∧ 1 ≤ w ∧ b + w ≤ cl_n wd a) → ¬ ft_p N wd k (nI a) y z := by
        rintro q ⟨-, f⟩
        obtain ⟨a', b1, b2, -, b4, -⟩ := f k3
        rw [au a' b1 b2] at b4
        exact q (b4 e)
      have w6 := da.2.2.2.2.1
      by_cases qy : ∃ b, b < 6 ∧ y = nI b
      · obtain ⟨b, b1, rfl⟩ := qy
        by_cases qz : ∃ w, w < 7 ∧ z = nI w
        · obtain ⟨w, w1, rfl⟩ := qz
          refine br_f (nI_pos (by omega)) (pk_lt w 1 (fun l => k0 (no ?_)) (fun l => br_f (nI_ge (b := 6) b1 (by omega)) (br_f (nI_nlt (a := 6) (by omega) (by omega)) ⟨ain, ?_⟩)))
          · rintro ⟨b', w', e1, e2, e3, e4⟩
            rw [nI_eq (by omega) (by omega)] at e2
            omega
          · rw [ac, nI_add]
            refine pk_lt (cl_n wd a) (b + w) (fun l2 => k0 (no ?_)) (fun l2 => k1 ⟨fun h => by omega, fun _ => ⟨a, a1, rfl, fun h => by omega, fun _ => ⟨b, w, rfl, rfl, l, l2⟩, fun h h2 => by omega⟩⟩) da.2.2.1
            rintro ⟨b', w', e1, e2, e3, e4⟩
            rw [nI_eq (by omega) (by omega)] at e1 e2
            omega
        · have nn := no (by
            rintro ⟨b', w', e1, e2, e3, e4⟩
            exact qz ⟨w', by omega, e2⟩)
          refine br_f (nI_pos (by omega)) ?_
          rcases ix_no (by omega) qz with y1 | ⟨y1, y2⟩
          · exact br_t (Int32.lt_trans y1 (by decide)) (k0 nn)
          · have l6 : (6 : Int32) < z := Int32.lt_of_lt_of_le (by decide : (6 : Int32) < nI 7) y2
            refine br_f (fun y3 => ?_) (br_f (nI_ge (b := 6) b1 (by omega)) (br_t l6 (k0 nn)))
            have : z < z := Int32.lt_trans (Int32.lt_trans y3 (by decide : (1 : Int32) < 6)) l6
            exact absurd this (fun w => Int32.lt_irrefl w)
      · have nn := no (by
          rintro ⟨b', w', e1, e2, e3, e4⟩
          exact qy ⟨b', by omega, e1⟩)
        rcases ix_no (by omega) qy with y1 | ⟨y1, y2⟩
        · exact br_t y1 (k0 nn)
        · exact br_f y1 (br_c (fun _ => k0 nn) (fun _ => br_t y2 (k0 nn)))
    · -- two operands or three
      have k4 : 4 ≤ k := by omega
      have k15 : k ≤ 15 := by omega
      by_cases qy : ∃ b, b < N ∧ y = nI b
      · obtain ⟨b, b1, rfl⟩ := qy
        have bin : vp_in (nI b) 24 := vp_in_nI (by omega) (by omega)
        have bc : (nI b).toNatClampNeg = b := nI_clamp (by omega)
        have bu : ∀ b', b' < N → nI b = nI b' → b' = b := fun b' h e => by
          rw [nI_eq (by omega) (by omega)] at e; exact e.symm
        have yes : (k = 13 ∨ k = 14 → wd b = 2) → (k = 12 → wd a = 1 ∧ ∃ e, e < N ∧ z = nI e ∧ wd e = wd b) → (k ≤ 11 → wd a = wd b ∧ (k = 9 → cl_n wd a ≤ 3)) → ft_p N wd k (nI a) (nI b) z := fun f1 f2 f3 =>
          ⟨fun h => by omega, fun _ => ⟨a, a1, rfl, fun h => by omega, fun h => by omega, fun _ _ => ⟨b, b1, rfl, f1, f2, f3⟩⟩⟩
        have no : ft_p N wd k (nI a) (nI b) z → (k = 13 ∨ k = 14 → wd b = 2) ∧ (k = 12 → wd a = 1 ∧ ∃ e, e < N ∧ z = nI e ∧ wd e = wd b) ∧ (k ≤ 11 → wd a = wd b ∧ (k = 9 → cl_n wd a ≤ 3)) := by
          rintro ⟨-, f⟩
          obtain ⟨a', c1, c2, -, -, c3⟩ := f k3
          obtain ⟨b', d1, d2, d3⟩ := c3 k4 k15
          rw [au a' c1 c2, bu b' d1 d2] at d3
          exact d3
        refine sx_sig1 hN hsN b1 (br_f (by decide) ?_)
        have h159 : (k = 13 ∨ k = 14) → wX_operandsFit_159 post (nI b) sN sC sW pP pD pE nc tc lV bU pL wH sE kd ox oy oz wd fo su rd dp nx en hS wO nO nW la lb nl fl eo so ne io td tf tb vA cH mK cA sK := by
          intro hh
          unfold wX_operandsFit_159
          refine ⟨bin, ?_⟩
          rw [bc]
          exact br_c (fun w => k1 (yes (fun _ => w) (fun h => by omega) (fun h => by omega))) (fun w => k0 (fun g => w ((no g).1 hh)))
        refine pk_eq k 13 (fun e => h159 (Or.inl e)) (fun n13 => pk_eq k 14 (fun e => h159 (Or.inr e)) (fun n14 => pk_eq k 15 (fun e => k1 (yes (fun h => by omega) (fun h => by omega) (fun h => by omega))) (fun n15 => pk_eq k 12 (fun e => ⟨ain, ?_⟩) (fun n12 => ⟨ain, bin, ?_⟩))))
        · rw [ac]
          refine br_c (fun w => ⟨bin, ?_⟩) (fun w => k0 (fun g => w ((no g).2.1 e).1))
          rw [bc]
          by_cases qz : ∃ e', e' < N ∧ z = nI e' ∧ wd e' = wd b
          · obtain ⟨e', c1, rfl, c2⟩ := qz
            exact sx_wide1 hN hsN c1 c2 (br_f (by decide) (k1 (yes (fun h => by omega) (fun _ => ⟨w, e', c1, rfl, c2⟩) (fun h => by omega))))
          · exact sx_wide0 hN hsN qz (br_t rfl (k0 (fun g => qz ((no g).2.1 e).2)))
        · rw [ac, bc]
          refine br_c (fun w => ?_) (fun w => k0 (fun g => w ((no g).2.2 (by omega)).1))
          refine pk_eq k 9 (fun e => ⟨ain, ?_⟩) (fun n9 => k1 (yes (fun h => by omega) (fun h => by omega) (fun _ => ⟨w, fun h => by omega⟩)))
          refine pk_lt 3 (cl_n wd a) (fun l => k0 (fun g => by have := ((no g).2.2 (by omega)).2 e; omega)) (fun l => k1 (yes (fun h => by omega) (fun h => by omega) (fun _ => ⟨w, fun _ => l⟩))) rfl da.2.2.1 (by omega) (by have := da.2.2.2.2.1; omega)
      · refine sx_sig0 hN hsN qy (br_t rfl (k0 ?_))
        rintro ⟨-, f⟩
        obtain ⟨a', c1, c2, -, -, c3⟩ := f k3
        obtain ⟨b', d1, d2, -⟩ := c3 k4 k15
        exact qy ⟨b', d1, d2⟩
  · refine sx_sig0 hN hsN qx (br_t rfl (k0 ?_))
    rintro ⟨-, f⟩
    obtain ⟨a', c1, c2, -⟩ := f k3
    exact qx ⟨a', c1, c2⟩
end
section
variable {yn yc yh yp yd yw : Int32} {ki eX eY eZ wi sT nT fR vL nX eN mE nM tR mT : Nat → Int32}
theorem fy_fit {post : Int32 → Prop} {N k : Nat} {x y z : Int32} (hN : N ≤ 24) (hyn : yn = nI N) (hd : ∀ t, t < N → df_s ki eX eY eZ wi t) (hk : k ≤ 18) (k1 : ft_p N wi k x y z → post 1) (k0 : ¬ ft_p N wi k x y z → post 0) : wpY_operandsFit post (yn, yc, yh, yp, yd, yw, ki, eX, eY, eZ, wi, sT, nT, fR, vL, nX, eN, mE, nM, tR, mT) (nI k) x y z := by
  unfold wpY_operandsFit
  refine pk_eq k 0 (fun e => k1 ⟨fun h => by omega, fun h => by omega⟩) (fun n0 => pk_lt 2 k (fun l2 => ?_) (fun l2 => ?_))
  · have k3 : 3 ≤ k := l2
    have h29 : (k = 3 ∨ k = 17) → wY_operandsFit_29 post x yn yc yh yp yd yw ki eX eY eZ wi sT nT fR vL nX eN mE nM tR mT := by
      intro hh
      unfold wY_operandsFit_29
      by_cases qx : ∃ a, a < N ∧ x = nI a
      · obtain ⟨a, a1, rfl⟩ := qx
        exact sy_sig1 hN hyn a1 ⟨narrow_b1, k1 ⟨fun h => by omega, fun _ => ⟨a, a1, rfl, fun h => by omega, fun h => by omega, fun h h2 => by omega⟩⟩⟩
      · refine sy_sig0 hN hyn qx ⟨narrow_b0, k0 ?_⟩
        rintro ⟨-, f⟩
        obtain ⟨a', c1, c2, -⟩ := f k3
        exact qx ⟨a', c1, c2⟩
    refine pk_eq k 3 (fun e => h29 (Or.inl e)) (fun n3 => pk_eq k 17 (fun e => h29 (Or.inr e)) (fun n17 => pk_lt 11 k (fun l11 => pk_eq k 12 (fun e => ?_) (fun n12 => pk_lt 14 k (fun l14 => pk_eq k 15 (fun e => ?_) (fun n15 => pk_eq k 16 (fun e => ?_) (fun n16 => ?_))) (fun l14 => ?_))) (fun l11 => ?_)))
    · -- 12
      by_cases qx : ∃ a, a < N ∧ x = nI a ∧ wi a = 1
      · obtain ⟨a, a1, rfl, a2⟩ := qx
        refine sy_wide1 hN hyn a1 a2 (br_f (by decide) ?_)
        by_cases qy : ∃ b c, b < N ∧ c < N ∧ y = nI b ∧ z = nI c ∧ wi b = wi c
        · obtain ⟨b, c, b1, c1, rfl, rfl, w⟩ := qy
          exact sy_alike1 hN hyn b1 c1 w (br_f (by decide) (k1 ⟨fun h => by omega, fun _ => ⟨a, a1, rfl, fun h => by omega, fun h => by omega, fun _ _ => ⟨b, b1, rfl, fun h => by omega, fun _ => ⟨a2, c, c1, rfl, w.symm⟩, fun h => by omega⟩⟩⟩))
        · refine sy_alike0 hN hyn qy (br_t rfl (k0 ?_))
          rintro ⟨-, f⟩
          obtain ⟨a', c1, c2, -, -, c3⟩ := f k3
          obtain ⟨b', d1, d2, -, d3, -⟩ := c3 (by omega) (by omega)
          obtain ⟨-, e', e1, e2, e3⟩ := d3 e
          exact qy ⟨b', e', d1, e1, d2, e2, e3.symm⟩
      · refine sy_wide0 hN hyn qx (br_t rfl (k0 ?_))
        rintro ⟨-, f⟩
        obtain ⟨a', c1, c2, -, -, c3⟩ := f k3
        obtain ⟨b', d1, d2, -, d3, -⟩ := c3 (by omega) (by omega)
        exact qx ⟨a', c1, c2, (d3 e).1⟩
    · -- 15
      by_cases qx : ∃ a, a < N ∧ x = nI a
      · obtain ⟨a, a1, rfl⟩ := qx
        refine sy_sig1 hN hyn a1 (br_f (by decide) ?_)
        by_cases qy : ∃ b, b < N ∧ y = nI b
        · obtain ⟨b, b1, rfl⟩ := qy
          exact sy_sig1 hN hyn b1 (br_f (by decide) (k1 ⟨fun h => by omega, fun _ => ⟨a, a1, rfl, fun h => by omega, fun h => by omega, fun _ _ => ⟨b, b1, rfl, fun h => by omega, fun h => by omega, fun h => by omega⟩⟩⟩))
        · refine sy_sig0 hN hyn qy (br_t rfl (k0 ?_))
          rintro ⟨-, f⟩
          obtain ⟨a', c1, c2, -, -, c3⟩ := f k3
          obtain ⟨b', d1, d2, -⟩ := c3 (by omega) (by omega)
          exact qy ⟨b', d1, d2⟩
      · refine sy_sig0 hN hyn qx (br_t rfl (k0 ?_))
        rintro ⟨-, f⟩
        obtain ⟨a', c1, c2, -⟩ := f k3
        exact qx ⟨a', c1, c2⟩
    · -- 16
      by_cases qx : ∃ a, a < N ∧ x = nI a
      · obtain ⟨a, a1, rfl⟩ := qx
        have ain : vp_in (nI a) 24 := vp_in_nI (by omega) (by omega)
        have ac : (nI a).toNatClampNeg = a := nI_clamp (by omega)
        have da := hd a a1
        have w6 := da.2.2.2.2.1
        have au : ∀ a', a' < N → nI a = nI a' → a' = a := fun a' h e => by
          rw [nI_eq (by omega) (by omega)] at e; exact e.symm
        have no : ¬ (∃ b w, y = nI b ∧ z = nI w ∧ 1 ≤ w ∧ b + w ≤ cl_n wi a) → ¬ ft_p N wi k (nI a) y z := by
          rintro q ⟨-, f⟩
          obtain ⟨a', b1, b2, -, b4, -⟩ := f k3
          rw [au a' b1 b2] at b4
          exact q (b4 e)
        refine sy_sig1 hN hyn a1 (br_f (by decide) ?_)
        by_cases qy : ∃ b, b < cl_n wi a ∧ y = nI b
        · obtain ⟨b, b1, rfl⟩ := qy
          by_cases qz : ∃ w, w < cl_n wi a - b + 1 ∧ z = nI w
          · obtain ⟨w, w1, rfl⟩ := qz
            refine br_f (nI_pos (by omega)) (pk_lt w 1 (fun l => k0 (no ?_)) (fun l => ⟨ain, ?_⟩))
            · rintro ⟨b', w', e1, e2, e3, e4⟩
              rw [nI_eq (by omega) (by omega)] at e2
              omega
            · rw [ac, da.2.2.1]
              refine br_f (nI_ge b1 (by omega)) ⟨ain, ?_⟩
              rw [pk_sub (by omega)]
              exact br_f (nI_nlt (by omega) (by omega)) (k1 ⟨fun h => by omega, fun _ => ⟨a, a1, rfl, fun h => by omega, fun _ => ⟨b, w, rfl, rfl, l, by omega⟩, fun h h2 => by omega⟩⟩)
          · have nn := no (by
              rintro ⟨b', w', e1, e2, e3, e4⟩
              rw [nI_eq (by omega) (by omega)] at e1
              exact qz ⟨w', by omega, e2⟩)
            refine br_f (nI_pos (by omega)) ?_
            rcases ix_no (by omega) qz with y1 | ⟨y1, y2⟩
            · exact br_t (Int32.lt_trans y1 (by decide)) (k0 nn)
            · refine br_c (fun _ => k0 nn) (fun _ => ⟨ain, ?_⟩)
              rw [ac, da.2.2.1]
              refine br_f (nI_ge b1 (by omega)) ⟨ain, ?_⟩
              rw [pk_sub (by omega)]
              exact br_t (Int32.lt_of_lt_of_le (nI_lt (by omega) (by omega)) y2) (k0 nn)
        · have nn := no (by
            rintro ⟨b', w', e1, e2, e3, e4⟩
            exact qy ⟨b', by omega, e1⟩)
          rcases ix_no (by omega) qy with y1 | ⟨y1, y2⟩
          · exact br_t y1 (k0 nn)
          · refine br_f y1 (br_c (fun _ => k0 nn) (fun _ => ⟨ain, br_t ?_ (k0 nn)⟩))
            rw [ac, da.2.2.1]
            exact y2
      · refine sy_sig0 hN hyn qx (br_t rfl (k0 ?_))
        rintro ⟨-, f⟩
        obtain ⟨a', c1, c2, -⟩ := f k3
        exact qx ⟨a', c1, c2⟩
    · -- 18
      have e18 : k = 18 := by omega
      by_cases qx : ∃ a, a < N ∧ x = nI a ∧ wi a = 2
      · obtain ⟨a, a1, rfl, a2⟩ := qx
        exact sy_wide1 hN hyn a1 a2 ⟨narrow_b1, k1 ⟨fun h => by omega, fun _ => ⟨a, a1, rfl, fun _ => a2, fun h => by omega, fun h h2 => by omega⟩⟩⟩
      · refine sy_wide0 hN hyn qx ⟨narrow_b0, k0 ?_⟩
        rintro ⟨-, f⟩
        obtain ⟨a', c1, c2, c3, -⟩ := f k3
        exact qx ⟨a', c1, c2, c3 e18⟩
    · -- 13, 14
      have k4 : 4 ≤ k := by omega
      have k15 : k ≤ 15 := by omega
      have kk : k = 13 ∨ k = 14 := by omega
      by_cases qx : ∃ a, a < N ∧ x = nI a
      · obtain ⟨a, a1, rfl⟩ := qx
        refine sy_sig1 hN hyn a1 (br_f (by decide) ?_)
        by_cases qy : ∃ b, b < N ∧ y = nI b ∧ wi b = 2
        · obtain ⟨b, b1, rfl, b2⟩ := qy
          exact sy_wide1 hN hyn b1 b2 (br_f (by decide) (k1 ⟨fun h => by omega, fun _ => ⟨a, a1, rfl, fun h => by omega, fun h => by omega, fun _ _ => ⟨b, b1, rfl, fun _ => b2, fun h => by omega, fun h => by omega⟩⟩⟩))
        · refine sy_wide0 hN hyn qy (br_t rfl (k0 ?_))
          rintro ⟨-, f⟩
          obtain ⟨a', c1, c2, -, -, c3⟩ := f k3
          obtain ⟨b', d1, d2, d3, -⟩ := c3 k4 k15
          exact qy ⟨b', d1, d2, d3 kk⟩
      · refine sy_sig0 hN hyn qx (br_t rfl (k0 ?_))
        rintro ⟨-, f⟩
        obtain ⟨a', c1, c2, -⟩ := f k3
        exact qx ⟨a', c1, c2⟩
    · -- 4 .. 11
      have k4 : 4 ≤ k := by omega
      have k15 : k ≤ 15 := by omega
      have k11 : k ≤ 11 := by omega
      by_cases qy : ∃ a b, a < N ∧ b < N ∧ x = nI a ∧ y = nI b ∧ wi a = wi b
      · obtain ⟨a, b, a1, b1, rfl, rfl, w⟩ := qy
        have ain : vp_in (nI a) 24 := vp_in_nI (by omega) (by omega)
        have ac : (nI a).toNatClampNeg = a := nI_clamp (by omega)
        have da := hd a a1
        have yes : (k = 9 → cl_n wi a ≤ 3) → ft_p N wi k (nI a) (nI b) z := fun f =>
          ⟨fun h => by omega, fun _ => ⟨a, a1, rfl, fun h => by omega, fun h => by omega, fun _ _ => ⟨b, b1, rfl, fun h => by omega, fun h => by omega, fun _ => ⟨w, f⟩⟩⟩⟩
        refine sy_alike1 hN hyn a1 b1 w (br_f (by decide) (pk_eq k 9 (fun e => ⟨ain, ?_⟩) (fun n9 => k1 (yes (fun h => by omega)))))
        rw [ac]
        refine pk_lt 3 (cl_n wi a) (fun l => k0 ?_) (fun l => k1 (yes (fun _ => l))) rfl da.2.2.1 (by omega) (by have := da.2.2.2.2.1; omega)
        rintro ⟨-, f⟩
        obtain ⟨a', c1, c2, -, -, c3⟩ := f k3
        obtain ⟨b', d1, d2, -, -, d3⟩ := c3 k4 k15
        have := (d3 k11).2 e
        have a31 : a < 2 ^ 31 := Nat.lt_of_lt_of_le a1 (Nat.le_trans hN (by decide))
        have a31' : a' < 2 ^ 31 := Nat.lt_of_lt_of_le c1 (Nat.le_trans hN (by decide))
        rw [nI_eq a31 a31'] at c2
        rw [c2] at l
        exact absurd l (Nat.not_lt.mpr this)
      · refine sy_alike0 hN hyn qy (br_t rfl (k0 ?_))
        rintro ⟨-, f⟩
        obtain ⟨a', c1, c2, -, -, c3⟩ := f k3
        obtain ⟨b', d1, d2, -, -, d3⟩ := c3 k4 k15
        exact qy ⟨a', b', c1, d1, c2, d2, (d3 k11).1⟩
  · -- 1, 2
    have hh : k = 1 ∨ k = 2 := by omega
    by_cases q : ∃ W, W < 7 ∧ x = nI W
    · obtain ⟨W, w1, rfl⟩ := q
      by_cases w0 : 1 ≤ W
      · refine sy_range w0 (by omega) (fun m m1 em => ⟨narrow_b1, k1 ((ft_12 hh).mpr ⟨W, m, rfl, w0, by omega, em, m1⟩)⟩) (fun hn => ⟨narrow_b0, k0 (fun g => ?_)⟩)
        obtain ⟨V, m, e1, e2, e3, e4, e5⟩ := (ft_12 hh).mp g
        rw [nI_eq (by omega) (by omega)] at e1
        subst e1
        exact hn ⟨m, e5, e4⟩
      · unfold wpY_inRange
        refine br_t (nI_lt (b := 1) (by omega) (by omega)) ⟨narrow_b0, k0 (fun g => ?_)⟩
        obtain ⟨V, m, e1, e2, e3, e4, e5⟩ := (ft_12 hh).mp g
        rw [nI_eq (by omega) (by omega)] at e1
        omega
    · have nn : ¬ ft_p N wi k x y z := fun g => by
        obtain ⟨V, m, e1, e2, e3, e4, e5⟩ := (ft_12 hh).mp g
        exact q ⟨V, by omega, e1⟩
      unfold wpY_inRange
      rcases ix_no (by omega) q with z1 | ⟨z1, z2⟩
      · exact br_t (Int32.lt_trans z1 (by decide)) ⟨narrow_b0, k0 nn⟩
      · have l6 : (6 : Int32) < x := Int32.lt_of_lt_of_le (by decide : (6 : Int32) < nI 7) z2
        refine br_f (fun y => ?_) (br_t l6 ⟨narrow_b0, k0 nn⟩)
        have : x < x := Int32.lt_trans (Int32.lt_trans y (by decide : (1 : Int32) < 6)) l6
        exact absurd this (fun w => Int32.lt_irrefl w)
end
end
section
/-! widths and costs -/
def wf_v (wd : Nat → Int32) (k : Nat) (x y z : Int32) : Int32 :=
  if k ≤ 2 then x else if k = 10 then 1 else if k = 11 then 1 else if k = 12 then wd y.toNatClampNeg else if k = 15 then wd x.toNatClampNeg + wd y.toNatClampNeg else if k = 16 then z else if k = 17 then 3 else if k = 18 then 4 else wd x.toNatClampNeg
section
variable {sN sC sW pP pD pE nc tc lV bU pL wH sE : Int32} {kd ox oy oz wd fo su rd dp nx en hS wO nO nW la lb nl fl eo so ne io td tf tb : Nat → Int32} {vA cH mK cA sK : Nat → Int64}
theorem fx_width {post : Int32 → Prop} {k : Nat} {x y z : Int32} (hk : k ≤ 18) (hx : 3 ≤ k → vp_in x 24) (hy : k = 12 ∨ k = 15 → vp_in y 24) (K : post (wf_v wd k x y z)) : wpX_widthFor post (sN, sC, sW, pP, pD, pE, nc, tc, lV, bU, pL, wH, sE, kd, ox, oy, oz, wd, fo, su, rd, dp, nx, en, hS, wO, nO, nW, la, lb, nl, fl, eo, so, ne, io, td, tf, tb, vA, cH, mK, cA, sK) (nI k) x y z := by
  unfold wf_v at K
  unfold wpX_widthFor
  refine pk_lt 2 k (fun l => ?_) (fun l => ?_)
  · rw [if_neg (by omega)] at K
    refine pk_eq k 10 (fun e => ?_) (fun n10 => pk_eq k 11 (fun e => ?_) (fun n11 => pk_eq k 12 (fun e => ⟨hy (Or.inl e), ?_⟩) (fun n12 => pk_eq k 15 (fun e => ⟨hx (by omega), hy (Or.inr e), ?_⟩) (fun n15 => pk_eq k 16 (fun e => ?_) (fun n16 => pk_eq k 17 (fun e => ?_) (fun n17 => pk_eq k 18 (fun e => ?_) (fun n18 => ⟨hx (by omega), ?_⟩)))))))
    · rw [if_pos e] at K; exact K
    · rw [if_neg (by omega), if_pos e] at K; exact K
    · rw [if_neg (by omega), if_neg (by omega), if_pos e] at K; exact K
    · rw [if_neg (by omega), if_neg (by omega), if_neg (by omega), if_pos e] at K; exact K
    · rw [if_neg (by omega), if_neg (by omega), if_neg (by omega), if_neg (by omega), if_pos e] at K; exact K
    · rw [if_neg (by omega), if_neg (by omega), if_neg (by omega), if_neg (by omega), if_neg (by omega), if_pos e] at K; exact K
    · rw [if_neg (by omega), if_neg (by omega), if_neg (by omega), if_neg (by omega), if_neg (by omega), if_neg (by omega), if_pos e] at K; exact K
    · rw [if_neg n10, if_neg n11, if_neg n12, if_neg n15, if_neg n16, if_neg n17, if_neg n18] at K; exact K
  · rw [if_pos l] at K; exact K
end
section
variable {yn yc yh yp yd yw : Int32} {ki eX eY eZ wi sT nT fR vL nX eN mE nM tR mT : Nat → Int32}
theorem fy_width {post : Int32 → Prop} {k : Nat} {x y z : Int32} (hk : k ≤ 18) (hx : 3 ≤ k → vp_in x 24) (hy : k = 12 ∨ k = 15 → vp_in y 24) (K : post (wf_v wi k x y z)) : wpY_widthOf post (yn, yc, yh, yp, yd, yw, ki, eX, eY, eZ, wi, sT, nT, fR, vL, nX, eN, mE, nM, tR, mT) (nI k) x y z := by
  unfold wf_v at K
  unfold wpY_widthOf
  refine pk_lt 2 k (fun l => ?_) (fun l => ?_)
  · rw [if_neg (by omega)] at K
    refine pk_eq k 10 (fun e => ?_) (fun n10 => pk_eq k 11 (fun e => ?_) (fun n11 => pk_eq k 12 (fun e => ⟨hy (Or.inl e), ?_⟩) (fun n12 => pk_eq k 15 (fun e => ⟨hx (by omega), hy (Or.inr e), ?_⟩) (fun n15 => pk_eq k 16 (fun e => ?_) (fun n16 => pk_eq k 17 (fun e => ?_) (fun n17 => pk_eq k 18 (fun e => ?_) (fun n18 => ⟨hx (by omega), ?_⟩)))))))
    · rw [if_pos e] at K; exact K
    · rw [if_neg (by omega), if_pos e] at K; exact K
    · rw [if_neg (by omega), if_neg (by omega), if_pos e] at K; exact K
    · rw [if_neg (by omega), if_neg (by omega), if_neg (by omega), if_pos e] at K; exact K
    · rw [if_neg (by omega), if_neg (by omega), if_neg (by omega), if_neg (by omega), if_pos e] at K; exact K
    · rw [if_neg (by omega), if_neg (by omega), if_neg (by omega), if_neg (by omega), if_neg (by omega), if_pos e] at K; exact K
    · rw [if_neg (by omega), if_neg (by omega), if_neg (by omega), if_neg (by omega), if_neg (by omega), if_neg (by omega), if_pos e] at K; exact K
    · rw [if_neg n10, if_neg n11, if_neg n12, if_neg n15, if_neg n16, if_neg n17, if_neg n18] at K; exact K
  · rw [if_pos l] at K; exact K
end
section
variable {sN sC sW pP pD pE nc tc lV bU pL wH sE : Int32} {kd ox oy oz wd fo su rd dp nx en hS wO nO nW la lb nl fl eo so ne io td tf tb : Nat → Int32} {vA cH mK cA sK : Nat → Int64}
theorem fx_cost {post : Int32 → Prop} {k W Wx : Nat} {x : Int32} (hk : k ≤ 18) (hx : k = 10 ∨ k = 11 ∨ k = 17 → vp_in x 24 ∧ wd x.toNatClampNeg = nI Wx) (K : post (nI (gc_c k W Wx + nc_c k W))) : wpX_costFor post (sN, sC, sW, pP, pD, pE, nc, tc, lV, bU, pL, wH, sE, kd, ox, oy, oz, wd, fo, su, rd, dp, nx, en, hS, wO, nO, nW, la, lb, nl, fl, eo, so, ne, io, td, tf, tb, vA, cH, mK, cA, sK) (nI k) x (nI W) := by
  unfold wpX_costFor
  refine pk_eq k 4 (fun e => ?_) (fun n4 => pk_eq k 5 (fun e => ?_) (fun n5 => pk_eq k 2 (fun e => ?_) (fun n2 => pk_eq k 6 (fun e => ?_) (fun n6 => pk_eq k 12 (fun e => ?_) (fun n12 => pk_eq k 7 (fun e => ?_) (fun n7 => pk_eq k 8 (fun e => ?_) (fun n8 => pk_eq k 9 (fun e => ?_) (fun n9 => pk_eq k 10 (fun e => ⟨(hx (by omega)).1, ?_⟩) (fun n10 => pk_eq k 11 (fun e => ⟨(hx (by omega)).1, ?_⟩) (fun n11 => pk_eq k 13 (fun e => ?_) (fun n13 => pk_eq k 14 (fun e => ?_) (fun n14 => pk_eq k 17 (fun e => ⟨(hx (by omega)).1, ?_⟩) (fun n17 => pk_eq k 18 (fun e => ?_) (fun n18 => ?_))))))))))))))
  · subst e
    exact (show gc_c 4 W Wx + nc_c 4 W = W from rfl) ▸ K
  · subst e
    exact (show gc_c 5 W Wx + nc_c 5 W = W from rfl) ▸ K
  · subst e
    rw [show (3 : Int32) * nI W = nI (3 * W) from pk_mul 3 W]
    exact (show gc_c 2 W Wx + nc_c 2 W = 3 * W from by simp [gc_c, nc_c]) ▸ K
  · subst e
    rw [show (3 : Int32) * nI W = nI (3 * W) from pk_mul 3 W]
    exact (show gc_c 6 W Wx + nc_c 6 W = 3 * W from by simp [gc_c, nc_c]) ▸ K
  · subst e
    rw [show (3 : Int32) * nI W = nI (3 * W) from pk_mul 3 W]
    exact (show gc_c 12 W Wx + nc_c 12 W = 3 * W from by simp [gc_c, nc_c]) ▸ K
  · subst e
    rw [show (9 : Int32) * nI W = nI (9 * W) from pk_mul 9 W]
    exact (show gc_c 7 W Wx + nc_c 7 W = 9 * W from by simp [gc_c, nc_c]) ▸ K
  · subst e
    rw [show (9 : Int32) * nI W = nI (9 * W) from pk_mul 9 W]
    exact (show gc_c 8 W Wx + nc_c 8 W = 9 * W from by simp [gc_c, nc_c]) ▸ K
  · subst e
    rw [show (10 : Int32) * nI W = nI (10 * W) from pk_mul 10 W, pk_mul]
    exact (show gc_c 9 W Wx + nc_c 9 W = 10 * W * W from rfl) ▸ K
  · have hw := (hx (by omega)).2
    subst e
    rw [hw, show (8 : Int32) * nI Wx = nI (8 * Wx) from pk_mul 8 Wx]
    exact (show gc_c 10 W Wx + nc_c 10 W = 8 * Wx from rfl) ▸ K
  · have hw := (hx (by omega)).2
    subst e
    rw [hw, show (4 : Int32) * nI Wx = nI (4 * Wx) from pk_mul 4 Wx]
    exact (show gc_c 11 W Wx + nc_c 11 W = 4 * Wx from rfl) ▸ K
  · subst e
    rw [show (6 : Int32) * nI W = nI (6 * W) from pk_mul 6 W]
    exact (show gc_c 13 W Wx + nc_c 13 W = 6 * W from by simp [gc_c, nc_c]) ▸ K
  · subst e
    rw [show (6 : Int32) * nI W = nI (6 * W) from pk_mul 6 W]
    exact (show gc_c 14 W Wx + nc_c 14 W = 6 * W from by simp [gc_c, nc_c]) ▸ K
  · have hw := (hx (by omega)).2
    subst e
    rw [hw, show (12 : Int32) * nI Wx = nI (12 * Wx) from pk_mul 12 Wx]
    exact (show gc_c 17 W Wx + nc_c 17 W = 12 * Wx from rfl) ▸ K
  · subst e
    rw [show gc_c 18 W Wx + nc_c 18 W = 40 from rfl] at K
    exact K
  · have e : gc_c k W Wx + nc_c k W = 0 := by
      rcases (show k = 0 ∨ k = 1 ∨ k = 3 ∨ k = 15 ∨ k = 16 from by omega) with e | e | e | e | e <;> subst e <;> rfl
    rw [e] at K
    exact K
end
section
variable {yn yc yh yp yd yw : Int32} {ki eX eY eZ wi sT nT fR vL nX eN mE nM tR mT : Nat → Int32}
theorem fy_cost {post : Int32 → Prop} {k W Wx : Nat} {x : Int32} (hk : k ≤ 18) (hx : k = 10 ∨ k = 11 ∨ k = 17 → vp_in x 24 ∧ wi x.toNatClampNeg = nI Wx) (K : post (nI (gc_c k W Wx + nc_c k W))) : wpY_costOf post (yn, yc, yh, yp, yd, yw, ki, eX, eY, eZ, wi, sT, nT, fR, vL, nX, eN, mE, nM, tR, mT) (nI k) x (nI W) := by
  unfold wpY_costOf
  refine pk_eq k 2 (fun e => ?_) (fun n2 => pk_eq k 6 (fun e => ?_) (fun n6 => pk_eq k 12 (fun e => ?_) (fun n12 => pk_eq k 4 (fun e => ?_) (fun n4 => pk_eq k 5 (fun e => ?_) (fun n5 => pk_eq k 7 (fun e => ?_) (fun n7 => pk_eq k 8 (fun e => ?_) (fun n8 => pk_eq k 9 (fun e => ?_) (fun n9 => pk_eq k 10 (fun e => ⟨(hx (by omega)).1, ?_⟩) (fun n10 => pk_eq k 11 (fun e => ⟨(hx (by omega)).1, ?_⟩) (fun n11 => pk_eq k 13 (fun e => ?_) (fun n13 => pk_eq k 14 (fun e => ?_) (fun n14 => pk_eq k 17 (fun e => ⟨(hx (by omega)).1, ?_⟩) (fun n17 => pk_eq k 18 (fun e => ?_) (fun n18 => ?_))))))))))))))
  · subst e
    rw [show (3 : Int32) * nI W = nI (3 * W) from pk_mul 3 W]
    exact (show gc_c 2 W Wx + nc_c 2 W = 3 * W from by simp [gc_c, nc_c]) ▸ K
  · subst e
    rw [show (3 : Int32) * nI W = nI (3 * W) from pk_mul 3 W]
    exact (show gc_c 6 W Wx + nc_c 6 W = 3 * W from by simp [gc_c, nc_c]) ▸ K
  · subst e
    rw [show (3 : Int32) * nI W = nI (3 * W) from pk_mul 3 W]
    exact (show gc_c 12 W Wx + nc_c 12 W = 3 * W from by simp [gc_c, nc_c]) ▸ K
  · subst e
    exact (show gc_c 4 W Wx + nc_c 4 W = W from rfl) ▸ K
  · subst e
    exact (show gc_c 5 W Wx + nc_c 5 W = W from rfl) ▸ K
  · subst e
    rw [show (9 : Int32) * nI W = nI (9 * W) from pk_mul 9 W]
    exact (show gc_c 7 W Wx + nc_c 7 W = 9 * W from by simp [gc_c, nc_c]) ▸ K
  · subst e
    rw [show (9 : Int32) * nI W = nI (9 * W) from pk_mul 9 W]
    exact (show gc_c 8 W Wx + nc_c 8 W = 9 * W from by simp [gc_c, nc_c]) ▸ K
  · subst e
    rw [show (10 : Int32) * nI W = nI (10 * W) from pk_mul 10 W, pk_mul]
    exact (show gc_c 9 W Wx + nc_c 9 W = 10 * W * W from rfl) ▸ K
  · have hw := (hx (by omega)).2
    subst e
    rw [hw, show (8 : Int32) * nI Wx = nI (8 * Wx) from pk_mul 8 Wx]
    exact (show gc_c 10 W Wx + nc_c 10 W = 8 * Wx from rfl) ▸ K
  · have hw := (hx (by omega)).2
    subst e
    rw [hw, show (4 : Int32) * nI Wx = nI (4 * Wx) from pk_mul 4 Wx]
    exact (show gc_c 11 W Wx + nc_c 11 W = 4 * Wx from rfl) ▸ K
  · subst e
    rw [show (6 : Int32) * nI W = nI (6 * W) from pk_mul 6 W]
    exact (show gc_c 13 W Wx + nc_c 13 W = 6 * W from by simp [gc_c, nc_c]) ▸ K
  · subst e
    rw [show (6 : Int32) * nI W = nI (6 * W) from pk_mul 6 W]
    exact (show gc_c 14 W Wx + nc_c 14 W = 6 * W from by simp [gc_c, nc_c]) ▸ K
  · have hw := (hx (by omega)).2
    subst e
    rw [hw, show (12 : Int32) * nI Wx = nI (12 * Wx) from pk_mul 12 Wx]
    exact (show gc_c 17 W Wx + nc_c 17 W = 12 * Wx from rfl) ▸ K
  · subst e
    rw [show gc_c 18 W Wx + nc_c 18 W = 40 from rfl] at K
    exact K
  · have e : gc_c k W Wx + nc_c k W = 0 := by
      rcases (show k = 0 ∨ k = 1 ∨ k = 3 ∨ k = 15 ∨ k = 16 from by omega) with e | e | e | e | e <;> subst e <;> rfl
    rw [e] at K
    exact K
end
end
section
/-! what lies behind a signal -/
def op_n (ox oy oz : Nat → Int32) (s i : Nat) : Nat := if i = 0 then cl_n ox s else if i = 1 then cl_n oy s else cl_n oz s
def oc_n (k : Nat) : Nat := if k ≤ 2 then 0 else if k = 12 then 3 else if k = 3 ∨ k = 16 ∨ k = 17 ∨ k = 18 then 1 else 2
/-- supports together -/
def or_f (b0 : Nat → Bool) (su : Nat → Int32) (op : Nat → Nat) : Nat → Nat → Bool
  | 0, j => b0 j
  | i + 1, j => or_f b0 su op i j || bt (su (op i)) j
def rd_f (r0 : Prop) (rd : Nat → Int32) (op : Nat → Nat) : Nat → Prop
  | 0 => r0
  | i + 1 => rd_f r0 rd op i ∨ rd (op i) = 1
def mx_f (dp : Nat → Int32) (op : Nat → Nat) : Nat → Nat
  | 0 => 0
  | i + 1 => max (mx_f dp op i) (cl_n dp (op i))
section
variable {sN sC sW pP pD pE nc tc lV bU pL wH sE : Int32} {kd ox oy oz wd fo su rd dp nx en hS wO nO nW la lb nl fl eo so ne io td tf tb : Nat → Int32} {vA cH mK cA sK : Nat → Int64}
theorem lb_cnt {post : Int32 → Prop} {k : Nat} (hk : k ≤ 18) (K : post (nI (oc_n k))) : wpX_operandCount post (sN, sC, sW, pP, pD, pE, nc, tc, lV, bU, pL, wH, sE, kd, ox, oy, oz, wd, fo, su, rd, dp, nx, en, hS, wO, nO, nW, la, lb, nl, fl, eo, so, ne, io, td, tf, tb, vA, cH, mK, cA, sK) (nI k) := by
  unfold oc_n at K
  unfold wpX_operandCount
  refine pk_lt 2 k (fun l => ?_) (fun l => ?_)
  · rw [if_neg (by omega)] at K
    refine pk_eq k 12 (fun e => ?_) (fun n12 => ?_)
    · rw [if_pos e] at K; exact K
    · rw [if_neg n12] at K
      refine pk_eq k 3 (fun e => ?_) (fun n3 => pk_eq k 16 (fun e => ?_) (fun n16 => pk_eq k 17 (fun e => ?_) (fun n17 => pk_eq k 18 (fun e => ?_) (fun n18 => ?_))))
      · rw [if_pos (Or.inl e)] at K; exact K
      · rw [if_pos (Or.inr (Or.inl e))] at K; exact K
      · rw [if_pos (Or.inr (Or.inr (Or.inl e)))] at K; exact K
      · rw [if_pos (Or.inr (Or.inr (Or.inr e)))] at K; exact K
      · rw [if_neg (by omega)] at K; exact K
  · rw [if_pos l] at K; exact K
theorem lb_op {post : Int32 → Prop} {s i : Nat} (hs : s < 24) (hi : i < 3) (h : (if i = 0 then ox s else if i = 1 then oy s else oz s) = nI (op_n ox oy oz s i)) (K : post (nI (op_n ox oy oz s i))) : wpX_operand post (sN, sC, sW, pP, pD, pE, nc, tc, lV, bU, pL, wH, sE, kd, ox, oy, oz, wd, fo, su, rd, dp, nx, en, hS, wO, nO, nW, la, lb, nl, fl, eo, so, ne, io, td, tf, tb, vA, cH, mK, cA, sK) (nI s) (nI i) := by
  have hin : vp_in (nI s) 24 := vp_in_nI hs (by omega)
  rw [← h] at K
  unfold wpX_operand
  rw [nI_clamp (by omega)]
  refine pk_eq i 0 (fun e => ⟨hin, ?_⟩) (fun n0 => pk_eq i 1 (fun e => ⟨hin, ?_⟩) (fun n1 => ⟨hin, ?_⟩))
  · rw [if_pos e] at K; exact K
  · rw [if_neg (by omega), if_pos e] at K; exact K
  · rw [if_neg n0, if_neg n1] at K; exact K
end
section
variable {sN sC sW pP pD pE nc tc lV bU pL wH sE : Int32} {kd ox oy oz wd fo nx en hS wO nO nW la lb nl fl eo so ne io td tf tb : Nat → Int32} {vA cH mK cA sK : Nat → Int64}
theorem lb_70 {post : SX → Prop} {s k : Nat} {su0 rd0 dp0 : Nat → Int32} {b0 : Nat → Bool} {r0 : Prop} (hs : s < 24) (hk3 : oc_n k ≤ 3)
    (hop : ∀ i, i < oc_n k → op_n ox oy oz s i < s ∧ (if i = 0 then ox s else if i = 1 then oy s else oz s) = nI (op_n ox oy oz s i)) (hd : ∀ t, t < s → dp0 t = nI (cl_n dp0 t) ∧ cl_n dp0 t ≤ t) (hr : ∀ t, t < s → rd0 t = 0 ∨ rd0 t = 1)
    (K : ∀ su' rd' dp', (∀ t, t ≠ s → su' t = su0 t ∧ rd' t = rd0 t ∧ dp' t = dp0 t) → (∀ j, j < 32 → bt (su' s) j = or_f b0 su0 (op_n ox oy oz s) (oc_n k) j) → (rd' s = 0 ∨ rd' s = 1) → (rd' s = 1 ↔ rd_f r0 rd0 (op_n ox oy oz s) (oc_n k)) → dp' s = nI (mx_f dp0 (op_n ox oy oz s) (oc_n k) + 1) → post (sN, sC, sW, pP, pD, pE, nc, tc, lV, bU, pL, wH, sE, kd, ox, oy, oz, wd, fo, su', rd', dp', nx, en, hS, wO, nO, nW, la, lb, nl, fl, eo, so, ne, io, td, tf, tb, vA, cH, mK, cA, sK)) :
    ∀ (d i : Nat) (su rd : Nat → Int32), oc_n k < d + i → i ≤ oc_n k → (∀ t, t ≠ s → su t = su0 t ∧ rd t = rd0 t) → (∀ j, j < 32 → bt (su s) j = or_f b0 su0 (op_n ox oy oz s) i j) → (rd s = 0 ∨ rd s = 1) → (rd s = 1 ↔ rd_f r0 rd0 (op_n ox oy oz s) i) → mx_f dp0 (op_n ox oy oz s) i < s ∨ i = 0 →
      wX_lookBehind_70 post (nI s) (nI (oc_n k)) sN sC sW pP pD pE nc tc lV bU pL wH sE d (nI (mx_f dp0 (op_n ox oy oz s) i)) (nI i) kd ox oy oz wd fo su rd dp0 nx en hS wO nO nW la lb nl fl eo so ne io td tf tb vA cH mK cA sK := by
  have hin : vp_in (nI s) 24 := vp_in_nI hs (by omega)
  have hc : (nI s).toNatClampNeg = s := nI_clamp (by omega)
  intro d
  induction d with
  | zero => intro i su rd h1 h2; omega
  | succ d ih =>
    intro i su rd h1 h2 hu hI hr1 hr2 hmx
    have m23 : mx_f dp0 (op_n ox oy oz s) i < 24 := by
      rcases hmx with z | z
      · omega
      · rw [z]; show 0 < 24; omega
    unfold wX_lookBehind_70
    refine pk_le (oc_n k) i (fun hle => ?_) (fun hlt => ?_)
    · have e : i = oc_n k := by omega
      refine ⟨hin, ?_⟩
      intro dp' ed
      rw [hc, nI_1, nr_b (by omega)] at ed
      rw [e] at hI hr2 ed
      refine K su rd dp' (fun t ht => ⟨(hu t ht).1, (hu t ht).2, by rw [ed, pk_un ht]⟩) hI hr1 hr2 (by rw [ed, pk_us])
    · obtain ⟨o1, o2⟩ := hop i hlt
      generalize ho : op_n ox oy oz s i = o at o1 o2
      have oin : vp_in (nI o) 24 := vp_in_nI (by omega) (by omega)
      have oc : (nI o).toNatClampNeg = o := nI_clamp (by omega)
      have od := hd o o1
      have ou := hu o (by omega)
      have mxs : mx_f dp0 (op_n ox oy oz s) (i + 1) = max (mx_f dp0 (op_n ox oy oz s) i) (cl_n dp0 o) := by
        show max _ (cl_n dp0 (op_n ox oy oz s i)) = _
        rw [ho]
      have rds : rd_f r0 rd0 (op_n ox oy oz s) (i + 1) ↔ (rd_f r0 rd0 (op_n ox oy oz s) i ∨ rd0 o = 1) := by
        show (_ ∨ rd0 (op_n ox oy oz s i) = 1) ↔ _
        rw [ho]
      have ors : ∀ j, or_f b0 su0 (op_n ox oy oz s) (i + 1) j = (or_f b0 su0 (op_n ox oy oz s) i j || bt (su0 o) j) := by
        intro j
        show (_ || bt (su0 (op_n ox oy oz s i)) j) = _
        rw [ho]
      have mx1 : mx_f dp0 (op_n ox oy oz s) (i + 1) < s := by
        rw [mxs]
        rcases hmx with z | z
        · omega
        · rw [z]
          show max 0 _ < s
          omega
      refine lb_op hs (by omega) (by rw [ho]; exact o2) ?_
      rw [ho]
      refine ⟨hin, oin, hin, ?_⟩
      intro su' es
      rw [hc, oc, ou.1] at es
      have hI' : ∀ j, j < 32 → bt (su' s) j = or_f b0 su0 (op_n ox oy oz s) (i + 1) j := by
        intro j hj
        rw [es, pk_us, b_or, hI j hj, ors]
      have hu' : ∀ rd' : Nat → Int32, (∀ t, t ≠ s → rd' t = rd0 t) → ∀ t, t ≠ s → su' t = su0 t ∧ rd' t = rd0 t := fun rd' f t ht => ⟨by rw [es, pk_un ht]; exact (hu t ht).1, f t ht⟩
      have h119 : ∀ rd' : Nat → Int32, (∀ t, t ≠ s → rd' t = rd0 t) → (rd' s = 0 ∨ rd' s = 1) → (rd' s = 1 ↔ rd_f r0 rd0 (op_n ox oy oz s) (i + 1)) → wX_lookBehind_119 post (wX_lookBehind_70 post (nI s) (nI (oc_n k)) sN sC sW pP pD pE nc tc lV bU pL wH sE d) (nI s) (nI (mx_f dp0 (op_n ox oy oz s) i)) (nI (oc_n k)) (nI i) (nI o) sN sC sW pP pD pE nc tc lV bU pL wH sE kd ox oy oz wd fo su' rd' dp0 nx en hS wO nO nW la lb nl fl eo so ne io td tf tb vA cH mK cA sK := by
        intro rd' f1 f2 f3
        have k := ih (i + 1) su' rd' (by omega) (by omega) (hu' rd' f1) hI' f2 f3 (Or.inl mx1)
        unfold wX_lookBehind_119
        refine ⟨oin, ?_⟩
        rw [oc, od.1]
        refine pk_le (cl_n dp0 o) (mx_f dp0 (op_n ox oy oz s) i) (fun l => ?_) (fun l => ⟨oin, ?_⟩)
        · intro y ey
          have e2 := ey.trans (nI_1 i)
          subst e2
          rw [mxs, show max (mx_f dp0 (op_n ox oy oz s) i) (cl_n dp0 o) = mx_f dp0 (op_n ox oy oz s) i from by omega] at k
          exact k
        · intro x ex
          intro y ey
          have e2 := ey.trans (nI_1 i)
          subst e2 ex
          rw [mxs, show max (mx_f dp0 (op_n ox oy oz s) i) (cl_n dp0 o) = cl_n dp0 o from by omega] at k
          exact k
      refine ⟨oin, ?_⟩
      rw [oc, ou.2]
      rcases hr o o1 with z | z
      · refine br_t z (h119 rd (fun t ht => (hu t ht).2) hr1 (hr2.trans ?_))
        rw [rds, z]
        exact ⟨fun y => Or.inl y, fun y => by rcases y with y | y; exact y; exact absurd y (by decide)⟩
      · refine br_f (by rw [z]; decide) ⟨hin, ?_⟩
        intro rd' er
        rw [hc, show vp_nar .boolean (1 : Int32) = 1 from rfl] at er
        refine h119 rd' (fun t ht => by rw [er, pk_un ht]; exact (hu t ht).2) (Or.inr (by rw [er, pk_us])) ?_
        rw [rds, er, pk_us]
        exact ⟨fun _ => Or.inr z, fun _ => rfl⟩
variable {su rd dp : Nat → Int32}
theorem lb_look {post : SX → Prop} {s : Nat} {stt : Int32} (hs : s < 24) (d : df_s kd ox oy oz wd s) (hl : ∀ t, t < s → lk_s kd ox oy oz su rd dp t) (hst : (stt = 0 ∧ ¬ (kd s = 0 ∨ kd s = 2)) ∨ (stt = 1 ∧ (kd s = 0 ∨ kd s = 2)))
    (K : ∀ su' rd' dp', (∀ t, t ≠ s → su' t = su t ∧ rd' t = rd t ∧ dp' t = dp t) → lk_s kd ox oy oz su' rd' dp' s → post (sN, sC, sW, pP, pD, pE, nc, tc, lV, bU, pL, wH, sE, kd, ox, oy, oz, wd, fo, su', rd', dp', nx, en, hS, wO, nO, nW, la, lb, nl, fl, eo, so, ne, io, td, tf, tb, vA, cH, mK, cA, sK)) : wpX_lookBehind post (sN, sC, sW, pP, pD, pE, nc, tc, lV, bU, pL, wH, sE, kd, ox, oy, oz, wd, fo, su, rd, dp, nx, en, hS, wO, nO, nW, la, lb, nl, fl, eo, so, ne, io, td, tf, tb, vA, cH, mK, cA, sK) (nI s) stt := by
  have hin : vp_in (nI s) 24 := vp_in_nI hs (by omega)
  have hc : (nI s).toNatClampNeg = s := nI_clamp (by omega)
  have hk := d.2.1
  have go54 : ∀ su1 rd1 : Nat → Int32, (∀ t, t ≠ s → su1 t = su t ∧ rd1 t = rd t) → (∀ j, j < 32 → bt (su1 s) j = (decide (kd s = 0 ∨ kd s = 2) && decide (j = s))) → (rd1 s = 0 ∨ rd1 s = 1) → (rd1 s = 1 ↔ cl_n kd s = 18) →
      (2 < cl_n kd s → wX_lookBehind_54 post (nI s) 0 sN sC sW pP pD pE nc tc lV bU pL wH sE kd ox oy oz wd fo su1 rd1 dp nx en hS wO nO nW la lb nl fl eo so ne io td tf tb vA cH mK cA sK) ∧ (¬ 2 < cl_n kd s → wX_lookBehind_54 post (nI s) (-1) sN sC sW pP pD pE nc tc lV bU pL wH sE kd ox oy oz wd fo su1 rd1 dp nx en hS wO nO nW la lb nl fl eo so ne io td tf tb vA cH mK cA sK) := by
    intro su1 rd1 f1 f2 f3 f4
    refine ⟨fun l => ?_, fun l => ?_⟩
    · unfold wX_lookBehind_54
      refine ⟨hin, ?_⟩
      rw [hc, d.1]
      refine lb_cnt hk ?_
      have hx := d.2.2.2.2.2.1 (by omega)
      have oc3 : oc_n (cl_n kd s) ≤ 3 := by
        unfold oc_n
        split
        · omega
        · split
          · omega
          · split <;> omega
      have oc1 : 1 ≤ oc_n (cl_n kd s) := by
        unfold oc_n
        rw [if_neg (by omega)]
        split
        · omega
        · split <;> omega
      have oc2 : 2 ≤ oc_n (cl_n kd s) ↔ (4 ≤ cl_n kd s ∧ cl_n kd s ≤ 15) := by
        unfold oc_n
        rw [if_neg (by omega)]
        split
        · constructor <;> intro <;> omega
        · split
          · constructor <;> intro <;> omega
          · constructor <;> intro <;> omega
      have oc33 : 3 ≤ oc_n (cl_n kd s) ↔ cl_n kd s = 12 := by
        unfold oc_n
        rw [if_neg (by omega)]
        split
        · constructor <;> intro <;> omega
        · split
          · constructor <;> intro <;> omega
          · constructor <;> intro <;> omega
      refine ⟨oc_n (cl_n kd s) + 1, lb_70 (su0 := su) (rd0 := rd) (dp0 := dp) (b0 := fun j => decide (kd s = 0 ∨ kd s = 2) && decide (j = s)) (r0 := cl_n kd s = 18) hs oc3 (fun i hi => ?_) (fun t ht => ⟨(hl t ht).2.2.2.1, (hl t ht).2.2.2.2.1⟩) (fun t ht => (hl t ht).2.1) ?_ (oc_n (cl_n kd s) + 1) 0 su1 rd1 (by omega) (by omega) f1 f2 f3 f4 (Or.inr rfl)⟩
      · rcases (show i = 0 ∨ i = 1 ∨ i = 2 from by omega) with e | e | e
        · subst e
          exact ⟨hx.2, hx.1⟩
        · subst e
          have q := oc2.mp (by omega)
          have hy := d.2.2.2.2.2.2.1 q.1 q.2
          exact ⟨hy.2, hy.1⟩
        · subst e
          have q := oc33.mp (by omega)
          have hz := d.2.2.2.2.2.2.2.1 q
          exact ⟨hz.2, hz.1⟩
      · intro su' rd' dp' g1 g2 g3 g4 g5
        have ux := g1 (cl_n ox s) (by omega)
        have dpx := hl _ hx.2
        refine K su' rd' dp' g1 ?_
        -- by the count of operands
        by_cases c3 : cl_n kd s = 12
        · have e3 : oc_n (cl_n kd s) = 3 := by have := oc33.mpr c3; omega
          have hy := d.2.2.2.2.2.2.1 (by omega) (by omega)
          have hz := d.2.2.2.2.2.2.2.1 c3
          have uy := g1 (cl_n oy s) (by omega)
          have uz := g1 (cl_n oz s) (by omega)
          rw [e3] at g2 g4 g5
          have mx : mx_f dp (op_n ox oy oz s) 3 = max (max (cl_n dp (cl_n ox s)) (cl_n dp (cl_n oy s))) (cl_n dp (cl_n oz s)) := by
            show max (max (max 0 (cl_n dp (cl_n ox s))) (cl_n dp (cl_n oy s))) (cl_n dp (cl_n oz s)) = _
            omega
          have dl1 := dpx.2.2.2.2.1
          have dl2 := (hl _ hy.2).2.2.2.2.1
          have dl3 := (hl _ hz.2).2.2.2.2.1
          have dpe : cl_n dp' s = mx_f dp (op_n ox oy oz s) 3 + 1 := by
            show (dp' s).toNatClampNeg = _
            rw [g5]; exact nI_clamp (by rw [mx]; omega)
          refine ⟨fun j hj => ?_, g3, ?_, by rw [dpe]; exact g5, by rw [dpe, mx]; omega, ?_⟩
          · rw [g2 j hj, ux.1, uy.1, uz.1]
            show ((((decide (kd s = 0 ∨ kd s = 2) && decide (j = s)) || bt (su (cl_n ox s)) j) || bt (su (cl_n oy s)) j) || bt (su (cl_n oz s)) j) = _
            simp [c3]
          · rw [g4, ux.2.1, uy.2.1, uz.2.1]
            show (((cl_n kd s = 18 ∨ rd (cl_n ox s) = 1) ∨ rd (cl_n oy s) = 1) ∨ rd (cl_n oz s) = 1) ↔ _
            simp [c3, or_assoc]
          · rw [dpe, mx, cl_eq ux.2.2, cl_eq uy.2.2, cl_eq uz.2.2, if_neg (by omega), if_pos (by omega), if_pos c3]
        · by_cases c2 : 4 ≤ cl_n kd s ∧ cl_n kd s ≤ 15
          · have e3 : oc_n (cl_n kd s) = 2 := by
              have a := oc2.mpr c2
              have b : ¬ 3 ≤ oc_n (cl_n kd s) := fun z => c3 (oc33.mp z)
              omega
            have hy := d.2.2.2.2.2.2.1 c2.1 c2.2
            have uy := g1 (cl_n oy s) (by omega)
            rw [e3] at g2 g4 g5
            have mx : mx_f dp (op_n ox oy oz s) 2 = max (cl_n dp (cl_n ox s)) (cl_n dp (cl_n oy s)) := by
              show max (max 0 (cl_n dp (cl_n ox s))) (cl_n dp (cl_n oy s)) = _
              omega
            have dl1 := dpx.2.2.2.2.1
            have dl2 := (hl _ hy.2).2.2.2.2.1
            have dpe : cl_n dp' s = mx_f dp (op_n ox oy oz s) 2 + 1 := by
              show (dp' s).toNatClampNeg = _
              rw [g5]; exact nI_clamp (by rw [mx]; omega)
            have n18 : ¬ cl_n kd s = 18 := by omega
            have k3 : 3 ≤ cl_n kd s := by omega
            refine ⟨fun j hj => ?_, g3, ?_, by rw [dpe]; exact g5, by rw [dpe, mx]; omega, ?_⟩
            · rw [g2 j hj, ux.1, uy.1]
              show (((decide (kd s = 0 ∨ kd s = 2) && decide (j = s)) || bt (su (cl_n ox s)) j) || bt (su (cl_n oy s)) j) = _
              simp [c3, c2.1, c2.2, k3]
            · rw [g4, ux.2.1, uy.2.1]
              show ((cl_n kd s = 18 ∨ rd (cl_n ox s) = 1) ∨ rd (cl_n oy s) = 1) ↔ _
              simp [c3, c2.1, c2.2, k3, n18]
            · rw [dpe, mx, cl_eq ux.2.2, cl_eq uy.2.2, if_neg (by omega), if_pos c2, if_neg c3]
              omega
          · have e3 : oc_n (cl_n kd s) = 1 := by
              have b : ¬ 2 ≤ oc_n (cl_n kd s) := fun z => c2 (oc2.mp z)
              omega
            rw [e3] at g2 g4 g5
            have mx : mx_f dp (op_n ox oy oz s) 1 = cl_n dp (cl_n ox s) := by
              show max 0 (cl_n dp (cl_n ox s)) = _
              omega
            have dl1 := dpx.2.2.2.2.1
            have dpe : cl_n dp' s = mx_f dp (op_n ox oy oz s) 1 + 1 := by
              show (dp' s).toNatClampNeg = _
              rw [g5]; exact nI_clamp (by rw [mx]; omega)
            have k3 : 3 ≤ cl_n kd s := by omega
            refine ⟨fun j hj => ?_, g3, ?_, by rw [dpe]; exact g5, by rw [dpe, mx]; omega, ?_⟩
            · rw [g2 j hj, ux.1]
              show ((decide (kd s = 0 ∨ kd s = 2) && decide (j = s)) || bt (su (cl_n ox s)) j) = _
              simp [c3, c2, k3]
            · rw [g4, ux.2.1]
              show (cl_n kd s = 18 ∨ rd (cl_n ox s) = 1) ↔ _
              simp [c3, c2, k3]
            · rw [dpe, mx, cl_eq ux.2.2, if_neg (by omega), if_neg c2, if_neg c3]
              omega
    · unfold wX_lookBehind_54
      refine ⟨hin, ?_⟩
      rw [hc, d.1]
      refine lb_cnt hk ?_
      have e0 : oc_n (cl_n kd s) = 0 := if_pos (by omega)
      rw [e0]
      refine ⟨1, ?_⟩
      unfold wX_lookBehind_70
      refine br_t (by decide) ⟨hin, ?_⟩
      intro dp' ed
      rw [hc, show vp_nar .byte ((-1 : Int32) + 1).toInt8.toInt32 = 0 from by rw [vp_nar_byte]; decide] at ed
      have dpe : dp' s = 0 := by rw [ed, pk_us]
      have dpc : cl_n dp' s = 0 := by show (dp' s).toNatClampNeg = 0; rw [dpe]; rfl
      have n18 : ¬ cl_n kd s = 18 := by omega
      refine K su1 rd1 dp' (fun t ht => ⟨(f1 t ht).1, (f1 t ht).2, by rw [ed, pk_un ht]⟩) ⟨fun j hj => ?_, f3, ?_, by rw [dpc, dpe]; rfl, by omega, by rw [dpc, if_pos (by omega)]⟩
      · rw [f2 j hj]
        have a1 : ¬ 3 ≤ cl_n kd s := by omega
        have a2 : ¬ (4 ≤ cl_n kd s ∧ cl_n kd s ≤ 15) := by omega
        have a3 : ¬ cl_n kd s = 12 := by omega
        simp [a1, a2, a3]
      · rw [f4]
        have a1 : ¬ 3 ≤ cl_n kd s := by omega
        have a2 : ¬ (4 ≤ cl_n kd s ∧ cl_n kd s ≤ 15) := by omega
        have a3 : ¬ cl_n kd s = 12 := by omega
        constructor
        · intro z; exact Or.inl z
        · rintro (z | z | z | z)
          · exact z
          · exact absurd z.1 a1
          · exact absurd z.1 a2
          · exact absurd z.1 a3
  have go16 : ∀ z0 : Int32, (∀ j, j < 32 → bt z0 j = (decide (kd s = 0 ∨ kd s = 2) && decide (j = s))) → wX_lookBehind_16 post (nI s) z0 (nI s) sN sC sW pP pD pE nc tc lV bU pL wH sE kd ox oy oz wd fo su rd dp nx en hS wO nO nW la lb nl fl eo so ne io td tf tb vA cH mK cA sK := by
    intro z0 hz
    unfold wX_lookBehind_16
    refine ⟨hin, ?_⟩
    intro su1 es
    rw [hc] at es
    have f1 : ∀ rd1 : Nat → Int32, (∀ t, t ≠ s → rd1 t = rd t) → ∀ t, t ≠ s → su1 t = su t ∧ rd1 t = rd t := fun rd1 g t ht => ⟨by rw [es, pk_un ht], g t ht⟩
    have f2 : ∀ j, j < 32 → bt (su1 s) j = (decide (kd s = 0 ∨ kd s = 2) && decide (j = s)) := fun j hj => by rw [es, pk_us]; exact hz j hj
    have g38 : ∀ r : Int32, (r = 1 ∧ cl_n kd s = 18) ∨ (r = 0 ∧ ¬ cl_n kd s = 18) → wX_lookBehind_38 post (nI s) r (nI s) sN sC sW pP pD pE nc tc lV bU pL wH sE kd ox oy oz wd fo su1 rd dp nx en hS wO nO nW la lb nl fl eo so ne io td tf tb vA cH mK cA sK := by
      intro r hr
      unfold wX_lookBehind_38
      refine ⟨hin, ?_⟩
      intro rd1 er
      have er2 : rd1 = upd rd s r := by
        rw [er, hc]
        rcases hr with z | z
        · rw [z.1]; rfl
        · rw [z.1]; rfl
      have f3 : rd1 s = 0 ∨ rd1 s = 1 := by
        rw [er2, pk_us]
        rcases hr with z | z
        · exact Or.inr z.1
        · exact Or.inl z.1
      have f4 : rd1 s = 1 ↔ cl_n kd s = 18 := by
        rw [er2, pk_us]
        rcases hr with z | z
        · exact ⟨fun _ => z.2, fun _ => z.1⟩
        · exact ⟨fun y => by rw [z.1] at y; exact absurd y (by decide), fun y => absurd y z.2⟩
      refine ⟨hin, ?_⟩
      rw [hc]
      have g := go54 su1 rd1 (f1 rd1 (fun t ht => by rw [er2, pk_un ht])) f2 f3 f4
      exact pk_lt 2 (cl_n kd s) (fun l => g.1 l) (fun l => g.2 (by omega)) rfl d.1 (by omega) (by omega)
    refine ⟨hin, ?_⟩
    rw [hc]
    refine pk_eq (cl_n kd s) 18 (fun e => g38 1 (Or.inl ⟨rfl, e⟩)) (fun e => g38 0 (Or.inr ⟨rfl, e⟩)) d.1
  unfold wpX_lookBehind
  rcases hst with ⟨z1, z2⟩ | ⟨z1, z2⟩
  · refine br_t z1 (go16 0 (fun j hj => ?_))
    rw [b_0]
    simp [z2]
  · refine br_f (by rw [z1]; decide) (go16 _ (fun j hj => ?_))
    show (((1 : Int32) <<< (nI s &&& 31)).toBitVec).getLsbD j = _
    rw [nf_sh s (by omega), BitVec.getLsbD_twoPow]
    have s32 : s < 32 := by omega
    by_cases e : s = j
    · simp [e, z2, hj]
      rw [← e]; exact z2
    · have e' : ¬ j = s := fun w => e w.symm
      simp [e, e']
end
end
section
/-! one signal more: plain laws -/
theorem wc_cg {k w wx wy wz y wx' wy' wz' y' : Nat} (h : wc_p k w wx wy wz y) (hx : 3 ≤ k → wx' = wx) (hy : 4 ≤ k → k ≤ 15 → wy' = wy) (hz : k = 12 → wz' = wz) (hyy : k = 16 → y' = y) : wc_p k w wx' wy' wz' y' := by
  obtain ⟨h1, h2, h3, h4, h5, h6, h7, h8, h9⟩ := h
  refine ⟨fun e => ?_, fun e1 e2 => ?_, fun e => ?_, fun e => ?_, fun e => ?_, fun e => ?_, fun e => ?_, h8, fun e => ?_⟩
  · rw [hx (by omega)]; exact h1 e
  · rw [hx (by omega), hy (by omega) (by omega)]; exact h2 e1 e2
  · rw [hx (by omega), hy (by omega) (by omega)]; exact h3 e
  · rw [hx (by omega), hy (by omega) (by omega), hz e]; exact h4 e
  · rw [hx (by omega), hy (by omega) (by omega)]; exact h5 e
  · rw [hx (by omega), hy (by omega) (by omega)]; exact h6 e
  · rw [hx (by omega), hyy e]; exact h7 e
  · rw [hx (by omega)]; exact h9 e
theorem df_old {N : Nat} {kd ox oy oz wd kd' ox' oy' oz' wd' : Nat → Int32} (hk : ∀ t, t < N → kd' t = kd t) (hx : ∀ t, t < N → ox' t = ox t) (hy : ∀ t, t < N → oy' t = oy t) (hz : ∀ t, t < N → oz' t = oz t) (hw : ∀ t, t < N → wd' t = wd t) {t : Nat} (ht : t < N) (d : df_s kd ox oy oz wd t) : df_s kd' ox' oy' oz' wd' t := by
  have ek := cl_eq (hk t ht)
  have ex := cl_eq (hx t ht)
  have ey := cl_eq (hy t ht)
  have ez := cl_eq (hz t ht)
  have ew := cl_eq (hw t ht)
  obtain ⟨d1, d2, d3, d4, d5, d6, d7, d8, d9, d10, d11⟩ := d
  unfold df_s
  rw [ek, ex, ey, ez, ew, hk t ht, hx t ht, hy t ht, hz t ht, hw t ht]
  refine ⟨d1, d2, d3, d4, d5, d6, d7, d8, d9, d10, wc_cg d11 (fun q => ?_) (fun q q2 => ?_) (fun q => ?_) (fun _ => rfl)⟩
  · exact cl_eq (hw _ (by have := (d6 q).2; omega))
  · exact cl_eq (hw _ (by have := (d7 q q2).2; omega))
  · exact cl_eq (hw _ (by have := (d8 q).2; omega))
theorem gc_cg {k w wx wx' : Nat} (h : 3 ≤ k → wx' = wx) : gc_c k w wx' = gc_c k w wx := by
  by_cases q : 3 ≤ k
  · rw [h q]
  · unfold gc_c
    have a : ∀ n, 3 ≤ n → ¬ k = n := fun n hn => by omega
    simp only [a 6 (by omega), a 12 (by omega), a 4 (by omega), a 5 (by omega), a 7 (by omega), a 8 (by omega), a 9 (by omega), a 10 (by omega), a 11 (by omega), a 13 (by omega), a 14 (by omega), a 17 (by omega), a 18 (by omega), or_self, if_false]
theorem sum_old {N : Nat} {kd ox oy oz wd kd' ox' wd' : Nat → Int32} (hk : ∀ t, t < N → kd' t = kd t) (hx : ∀ t, t < N → ox' t = ox t) (hw : ∀ t, t < N → wd' t = wd t) (hd : ∀ t, t < N → df_s kd ox oy oz wd t) : ∀ n, n ≤ N → gc_n kd' ox' wd' n = gc_n kd ox wd n ∧ nc_n kd' wd' n = nc_n kd wd n ∧ hs_n kd' wd' n = hs_n kd wd n := by
  intro n
  induction n with
  | zero => intro _; exact ⟨rfl, rfl, rfl⟩
  | succ n ih =>
    intro hn
    obtain ⟨i1, i2, i3⟩ := ih (by omega)
    have ek := cl_eq (hk n (by omega))
    have ex := cl_eq (hx n (by omega))
    have ew := cl_eq (hw n (by omega))
    refine ⟨?_, ?_, ?_⟩
    · show gc_n kd' ox' wd' n + gc_c (cl_n kd' n) (cl_n wd' n) (cl_n wd' (cl_n ox' n)) = gc_n kd ox wd n + gc_c (cl_n kd n) (cl_n wd n) (cl_n wd (cl_n ox n))
      rw [i1, ek, ew, ex]
      congr 1
      exact gc_cg (fun q => cl_eq (hw _ (by have := ((hd n (by omega)).2.2.2.2.2.1 q).2; omega)))
    · show nc_n kd' wd' n + nc_c (cl_n kd' n) (cl_n wd' n) = nc_n kd wd n + nc_c (cl_n kd n) (cl_n wd n)
      rw [i2, ek, ew]
    · show hs_n kd' wd' n + hd_c (cl_n kd' n) (cl_n wd' n) = hs_n kd wd n + hd_c (cl_n kd n) (cl_n wd n)
      rw [i3, ek, ew]
theorem lk_old {N : Nat} {kd ox oy oz wd su rd dp kd' ox' oy' oz' su' rd' dp' : Nat → Int32} (hk : ∀ t, t < N → kd' t = kd t) (hx : ∀ t, t < N → ox' t = ox t) (hy : ∀ t, t < N → oy' t = oy t) (hz : ∀ t, t < N → oz' t = oz t) (hs : ∀ t, t < N → su' t = su t ∧ rd' t = rd t ∧ dp' t = dp t) {t : Nat} (ht : t < N) (d : df_s kd ox oy oz wd t) (l : lk_s kd ox oy oz su rd dp t) : lk_s kd' ox' oy' oz' su' rd' dp' t := by
  have ek := cl_eq (hk t ht)
  have ex := cl_eq (hx t ht)
  have ey := cl_eq (hy t ht)
  have ez := cl_eq (hz t ht)
  have st := hs t ht
  have ed := cl_eq st.2.2
  obtain ⟨l1, l2, l3, l4, l5, l6⟩ := l
  have dx : 3 ≤ cl_n kd t → cl_n ox t < N := fun q => by have := (d.2.2.2.2.2.1 q).2; omega
  have dy : 4 ≤ cl_n kd t → cl_n kd t ≤ 15 → cl_n oy t < N := fun q q2 => by have := (d.2.2.2.2.2.2.1 q q2).2; omega
  have dz : cl_n kd t = 12 → cl_n oz t < N := fun q => by have := (d.2.2.2.2.2.2.2.1 q).2; omega
  unfold lk_s
  rw [ek, ex, ey, ez, hk t ht, st.1, st.2.1, st.2.2, ed]
  refine ⟨fun j hj => ?_, l2, l3.trans ?_, l4, l5, l6.trans ?_⟩
  · rw [l1 j hj]
    congr 1
    · congr 1
      · congr 1
        by_cases q : 3 ≤ cl_n kd t
        · rw [(hs _ (dx q)).1]
        · simp [q]
      · by_cases q : 4 ≤ cl_n kd t ∧ cl_n kd t ≤ 15
        · rw [(hs _ (dy q.1 q.2)).1]
        · simp [q]
    · by_cases q : cl_n kd t = 12
      · rw [(hs _ (dz q)).1]
      · simp [q]
  · refine or_congr Iff.rfl (or_congr (and_congr_right (fun q => ?_)) (or_congr (and_congr_right (fun q => ?_)) (and_congr_right (fun q => ?_))))
    · rw [(hs _ (dx q)).2.1]
    · rw [(hs _ (dy q.1 q.2)).2.1]
    · rw [(hs _ (dz q)).2.1]
  · by_cases q : cl_n kd t < 3
    · rw [if_pos q, if_pos q]
    · rw [if_neg q, if_neg q]
      congr 1
      congr 1
      · congr 1
        · exact (cl_eq (hs _ (dx (by omega))).2.2).symm
        · by_cases q2 : 4 ≤ cl_n kd t ∧ cl_n kd t ≤ 15
          · rw [if_pos q2, if_pos q2]
            exact (cl_eq (hs _ (dy q2.1 q2.2)).2.2).symm
          · rw [if_neg q2, if_neg q2]
      · by_cases q2 : cl_n kd t = 12
        · rw [if_pos q2, if_pos q2]
          exact (cl_eq (hs _ (dz q2)).2.2).symm
        · rw [if_neg q2, if_neg q2]
/-- the new signal is as it should be -/
theorem df_new {N k W : Nat} {kd ox oy oz wd kd' ox' oy' oz' wd' : Nat → Int32} {x y z : Int32} (hN : N ≤ 24) (hd : ∀ t, t < N → df_s kd ox oy oz wd t) (hk : k ≤ 18) (hW1 : 1 ≤ W) (hW : W ≤ 6) (ft : ft_p N wd k x y z) (fw : wf_v wd k x y z = nI W)
    (ek : kd' N = nI k) (ex : ox' N = x) (ey : oy' N = y) (ez : oz' N = z) (ew : wd' N = nI W) (hw : ∀ t, t < N → wd' t = wd t) : df_s kd' ox' oy' oz' wd' N := by
  have ck : cl_n kd' N = k := by show (kd' N).toNatClampNeg = k; rw [ek]; exact nI_clamp (by omega)
  have cw : cl_n wd' N = W := by show (wd' N).toNatClampNeg = W; rw [ew]; exact nI_clamp (by omega)
  have fw' : ∀ e : Int32, wf_v wd k x y z = e → e = nI W := fun e h => h.symm.trans fw
  unfold df_s
  rw [ck, cw, ek, ew]
  refine ⟨rfl, hk, rfl, hW1, hW, fun q => ?_, fun q q2 => ?_, fun q => ?_, fun q => ?_, fun q => ?_, ?_⟩
  · obtain ⟨a, a1, a2, -⟩ := ft.2 q
    have e : cl_n ox' N = a := by show (ox' N).toNatClampNeg = a; rw [ex, a2]; exact nI_clamp (by omega)
    rw [e, ex]; exact ⟨a2, a1⟩
  · obtain ⟨a, a1, a2, -, -, f⟩ := ft.2 (by omega)
    obtain ⟨b, b1, b2, -⟩ := f q q2
    have e : cl_n oy' N = b := by show (oy' N).toNatClampNeg = b; rw [ey, b2]; exact nI_clamp (Nat.lt_of_lt_of_le b1 (Nat.le_trans hN (by decide)))
    rw [e, ey]; exact ⟨b2, b1⟩
  · obtain ⟨a, a1, a2, -, -, f⟩ := ft.2 (by omega)
    have k4 : 4 ≤ k := by rw [q]; decide
    have k15 : k ≤ 15 := by rw [q]; decide
    obtain ⟨b, b1, b2, -, g, -⟩ := f k4 k15
    obtain ⟨-, c, c1, c2, -⟩ := g q
    have e : cl_n oz' N = c := by show (oz' N).toNatClampNeg = c; rw [ez, c2]; exact nI_clamp (Nat.lt_of_lt_of_le c1 (Nat.le_trans hN (by decide)))
    rw [e, ez]; exact ⟨c2, c1⟩
  · obtain ⟨V, m, e1, e2, e3, e4, e5⟩ := ft.1 q
    have wv : x = nI W := fw' x (if_pos (by omega))
    rw [wv, nI_eq (by omega) (by omega)] at e1
    have h2 : (2 : Nat) ^ V ≤ 2 ^ 6 := Nat.pow_le_pow_right (by decide) e3
    have e : cl_n oy' N = m := by show (oy' N).toNatClampNeg = m; rw [ey, e4]; exact nI_clamp (by omega)
    rw [e, ey, e1]; exact ⟨e4, e5⟩
  · obtain ⟨a, a1, a2, -, f, -⟩ := ft.2 (by omega)
    obtain ⟨b, w, b1, b2, b3, b4⟩ := f q
    have w6 := (hd a a1).2.2.2.2.1
    have e : cl_n oy' N = b := by show (oy' N).toNatClampNeg = b; rw [ey, b1]; exact nI_clamp (by omega)
    rw [e, ey]; exact b1
  · -- widths
    by_cases k3 : 3 ≤ k
    · obtain ⟨a, a1, a2, f18, f16, f⟩ := ft.2 k3
      have da := hd a a1
      have a31 : a < 2 ^ 31 := Nat.lt_of_lt_of_le a1 (Nat.le_trans hN (by decide))
      have xa : x.toNatClampNeg = a := by rw [a2]; exact nI_clamp a31
      have ea : cl_n ox' N = a := by show (ox' N).toNatClampNeg = a; rw [ex]; exact xa
      have wa : cl_n wd' (cl_n ox' N) = cl_n wd a := by rw [ea]; exact cl_eq (hw a a1)
      have own : ∀ e : Int32, e = nI W → e.toNatClampNeg = W := fun e h => by rw [h]; exact nI_clamp (Nat.lt_of_le_of_lt hW (by decide))
      have k2 : ¬ k ≤ 2 := by omega
      have wide : k ≠ 10 → k ≠ 11 → k ≠ 12 → k ≠ 15 → k ≠ 16 → k ≠ 17 → k ≠ 18 → W = cl_n wd a := by
        intro n1 n2 n3 n4 n5 n6 n7
        have := fw' (wd x.toNatClampNeg) (by unfold wf_v; rw [if_neg k2, if_neg n1, if_neg n2, if_neg n3, if_neg n4, if_neg n5, if_neg n6, if_neg n7])
        rw [xa] at this
        exact (own _ this).symm
      have two : 4 ≤ k → k ≤ 15 → ∃ b, b < N ∧ y = nI b ∧ cl_n wd' (cl_n oy' N) = cl_n wd b ∧ y.toNatClampNeg = b ∧ (k = 13 ∨ k = 14 → wd b = 2) ∧ (k = 12 → wd a = 1 ∧ ∃ e, e < N ∧ z = nI e ∧ wd e = wd b) ∧ (k ≤ 11 → wd a = wd b ∧ (k = 9 → cl_n wd a ≤ 3)) := by
        intro q1 q2
        obtain ⟨b, b1, b2, b3⟩ := f q1 q2
        have yb : y.toNatClampNeg = b := by rw [b2]; exact nI_clamp (Nat.lt_of_lt_of_le b1 (Nat.le_trans hN (by decide)))
        have eb : cl_n oy' N = b := by show (oy' N).toNatClampNeg = b; rw [ey]; exact yb
        exact ⟨b, b1, b2, by rw [eb]; exact cl_eq (hw b b1), yb, b3⟩
      clear f
      rw [wa]
      refine ⟨fun e => wide (by omega) (by omega) (by omega) (by omega) (by omega) (by omega) (by omega), fun e1 e2 => ?_, fun e => ?_, fun e => ?_, fun e => ?_, fun e => ?_, fun e => ?_, fun e => ?_, fun e => ?_⟩
      · have w1 := wide (by omega) (by omega) (by omega) (by omega) (by omega) (by omega) (by omega)
        have q2 : k ≤ 15 := by omega
        have q3 : k ≤ 11 := by omega
        obtain ⟨b, b1, b2, b3, b4, -, -, b5⟩ := two e1 q2
        rw [b3]
        exact ⟨w1, w1.trans (congrArg Int32.toNatClampNeg (b5 q3).1)⟩
      · have q1 : 4 ≤ k := by omega
        have q2 : k ≤ 15 := by omega
        have q3 : k ≤ 11 := by omega
        obtain ⟨b, b1, b2, b3, b4, -, -, b5⟩ := two q1 q2
        rw [b3]
        have w1 : (1 : Int32) = nI W := by
          refine fw' 1 ?_
          unfold wf_v
          rw [if_neg k2]
          rcases e with e | e
          · rw [if_pos e]
          · by_cases e10 : k = 10
            · rw [if_pos e10]
            · rw [if_neg e10, if_pos e]
        exact ⟨(own 1 w1).symm, congrArg Int32.toNatClampNeg (b5 q3).1⟩
      · have q1 : 4 ≤ k := by omega
        have q2 : k ≤ 15 := by omega
        obtain ⟨b, b1, b2, b3, b4, -, b5, -⟩ := two q1 q2
        obtain ⟨g1, c, c1, c2, c3⟩ := b5 e
        rw [b3]
        have ez' : cl_n oz' N = c := by show (oz' N).toNatClampNeg = c; rw [ez, c2]; exact nI_clamp (Nat.lt_of_lt_of_le c1 (Nat.le_trans hN (by decide)))
        have wz : cl_n wd' (cl_n oz' N) = cl_n wd c := by rw [ez']; exact cl_eq (hw c c1)
        have w1 := fw' (wd y.toNatClampNeg) (by
          unfold wf_v
          rw [if_neg k2, if_neg (show ¬ k = 10 by rw [e]; decide), if_neg (show ¬ k = 11 by rw [e]; decide), if_pos e])
        rw [b4] at w1
        have w2 : W = cl_n wd b := (own _ w1).symm
        rw [wz]
        exact ⟨congrArg Int32.toNatClampNeg g1, w2, w2.trans (congrArg Int32.toNatClampNeg c3).symm⟩
      · have w1 := wide (by omega) (by omega) (by omega) (by omega) (by omega) (by omega) (by omega)
        have q1 : 4 ≤ k := by omega
        have q2 : k ≤ 15 := by omega
        obtain ⟨b, b1, b2, b3, b4, b5, -, -⟩ := two q1 q2
        rw [b3]
        exact ⟨w1, congrArg Int32.toNatClampNeg (b5 e)⟩
      · have q1 : 4 ≤ k := by omega
        have q2 : k ≤ 15 := by omega
        obtain ⟨b, b1, b2, b3, b4, -, -, -⟩ := two q1 q2
        rw [b3]
        have db := hd b b1
        have w1 := fw' (wd x.toNatClampNeg + wd y.toNatClampNeg) (by
          unfold wf_v
          rw [if_neg k2, if_neg (show ¬ k = 10 by rw [e]; decide), if_neg (show ¬ k = 11 by rw [e]; decide), if_neg (show ¬ k = 12 by rw [e]; decide), if_pos e])
        have l1 := da.2.2.2.2.1
        have l2 := db.2.2.2.2.1
        rw [xa, b4, da.2.2.1, db.2.2.1, nI_add, nI_eq (Nat.lt_of_le_of_lt (Nat.add_le_add l1 l2) (by decide)) (Nat.lt_of_le_of_lt hW (by decide))] at w1
        exact w1.symm
      · obtain ⟨b, w, b1, b2, b3, b4⟩ := f16 e
        have w6 := da.2.2.2.2.1
        have w1 := fw' z (by
          unfold wf_v
          rw [if_neg k2, if_neg (show ¬ k = 10 by rw [e]; decide), if_neg (show ¬ k = 11 by rw [e]; decide), if_neg (show ¬ k = 12 by rw [e]; decide), if_neg (show ¬ k = 15 by rw [e]; decide), if_pos e])
        have wl : w < 2 ^ 31 := Nat.lt_of_le_of_lt (Nat.le_trans (Nat.le_add_left w b) (Nat.le_trans b4 w6)) (by decide)
        have bl : b < 2 ^ 31 := Nat.lt_of_le_of_lt (Nat.le_trans (Nat.le_add_right b w) (Nat.le_trans b4 w6)) (by decide)
        rw [b2, nI_eq wl (Nat.lt_of_le_of_lt hW (by decide))] at w1
        have ey' : cl_n oy' N = b := by show (oy' N).toNatClampNeg = b; rw [ey, b1]; exact nI_clamp bl
        rw [ey', ← w1]
        exact b4
      · have w1 := fw' 3 (by
          unfold wf_v
          rw [if_neg k2, if_neg (show ¬ k = 10 by rw [e]; decide), if_neg (show ¬ k = 11 by rw [e]; decide), if_neg (show ¬ k = 12 by rw [e]; decide), if_neg (show ¬ k = 15 by rw [e]; decide), if_neg (show ¬ k = 16 by rw [e]; decide), if_pos e])
        exact (own 3 w1).symm
      · have w1 := fw' 4 (by
          unfold wf_v
          rw [if_neg k2, if_neg (show ¬ k = 10 by rw [e]; decide), if_neg (show ¬ k = 11 by rw [e]; decide), if_neg (show ¬ k = 12 by rw [e]; decide), if_neg (show ¬ k = 15 by rw [e]; decide), if_neg (show ¬ k = 16 by rw [e]; decide), if_neg (show ¬ k = 17 by rw [e]; decide), if_pos e])
        exact ⟨(own 4 w1).symm, congrArg Int32.toNatClampNeg (f18 e)⟩
    · exact ⟨fun e => by omega, fun e => by omega, fun e => by omega, fun e => by omega, fun e => by omega, fun e => by omega, fun e => by omega, fun e => by omega, fun e => by omega⟩
end
section
/-! signal -/
theorem i_vc_signal {k : Nat} {u : SX} {v : SY} (I : i_Rel k u v) (hk : k + 5 ≤ 2560) (v1 : Int32) (v2 : Int32) (v3 : Int32) (v4 : Int32) : wpX_signal (fun r u' => wpY_signal (fun r' v' => r' = r ∧ i_Rel (k + 5) u' v') v v1 v2 v3 v4) u v1 v2 v3 v4 := by
  refine zz_el (P := fun u v => wpX_signal (fun r u' => wpY_signal (fun r' v' => r' = r ∧ i_Rel (k + 5) u' v') v v1 v2 v3 v4) u v1 v2 v3 v4) ?_ I
  intro N sN sC sW pP pD pE nc tc lV bU pL wH sE yd yw kd ox oy oz wd fo su rd dp nx en hS wO nO nW la lb nl fl eo so ne io td tf tb vL tR mT vA cH mK cA sK h
  have h' := h
  obtain ⟨⟨a1, a2, a3, a4, a5, a6, a7, a8, a9, a10, a11⟩, h2, h3, h4, h5, h6⟩ := h'
  have rel : i_Rel (k + 5) (sN, sC, sW, pP, pD, pE, nc, tc, lV, bU, pL, wH, sE, kd, ox, oy, oz, wd, fo, su, rd, dp, nx, en, hS, wO, nO, nW, la, lb, nl, fl, eo, so, ne, io, td, tf, tb, vA, cH, mK, cA, sK) (sN, sC, sW, pP, yd, yw, kd, ox, oy, oz, wd, hS, nO, fo, vL, nx, en, wO, nW, tR, mT) := zz_mk h
  unfold wpX_signal
  by_cases hN : N = 24
  · refine br_f (by rw [a1, hN]; decide) ?_
    unfold wpY_signal
    exact br_t (by rw [a1, hN]; rfl) ⟨rfl, rel⟩
  have hN24 : N < 24 := by omega
  have xN : sN < 24 := by rw [a1]; exact nI_lt (b := 24) hN24 (by omega)
  have yN : ¬ sN = 24 := by rw [a1]; exact fun e => hN ((nI_eq (b := 24) (by omega) (by omega)).mp e)
  refine br_t xN ?_
  by_cases hkk : ∃ j, j < 19 ∧ v1 = nI j
  · obtain ⟨kk, kk1, rfl⟩ := hkk
    have kp : ¬ nI kk < 0 := nI_pos (by omega)
    have k18 : ¬ (18 : Int32) < nI kk := nI_nlt (a := 18) (by omega) (by omega)
    have kk18 : kk ≤ 18 := by omega
    refine br_f kp (br_f k18 ?_)
    -- the reference up to the operands
    have yy0 : ∀ postY : Int32 → SY → Prop, wpY_operandsFit (fun r_4 => (r_4 = 0 → postY (-1) (sN, sC, sW, pP, yd, yw, kd, ox, oy, oz, wd, hS, nO, fo, vL, nx, en, wO, nW, tR, mT)) ∧ (¬ r_4 = 0 → wpY_widthOf (fun r_27 => (r_27 < 1 → postY (-1) (sN, sC, sW, pP, yd, yw, kd, ox, oy, oz, wd, hS, nO, fo, vL, nx, en, wO, nW, tR, mT)) ∧ (¬ r_27 < 1 → (r_27 ≤ 6 → wpY_costOf (fun r_51 => (nI kk = 0 → wY_signal_81 postY (nI kk) v2 v3 v4 r_27 r_51 sN sC sW pP yd yw kd ox oy oz wd hS nO fo vL nx en wO nW tR mT) ∧ (¬ nI kk = 0 → (nI kk = 2 → wY_signal_81 postY (nI kk) v2 v3 v4 r_27 r_51 sN sC sW pP yd yw kd ox oy oz wd hS nO fo vL nx en wO nW tR mT) ∧ (¬ nI kk = 2 → wY_signal_86 postY (nI kk) v2 v3 v4 r_27 r_51 0 sN sC sW pP yd yw kd ox oy oz wd hS nO fo vL nx en wO nW tR mT))) (sN, sC, sW, pP, yd, yw, kd, ox, oy, oz, wd, hS, nO, fo, vL, nx, en, wO, nW, tR, mT) (nI kk) v2 r_27) ∧ (¬ r_27 ≤ 6 → postY (-1) (sN, sC, sW, pP, yd, yw, kd, ox, oy, oz, wd, hS, nO, fo, vL, nx, en, wO, nW, tR, mT)))) (sN, sC, sW, pP, yd, yw, kd, ox, oy, oz, wd, hS, nO, fo, vL, nx, en, wO, nW, tR, mT) (nI kk) v2 v3 v4)) (sN, sC, sW, pP, yd, yw, kd, ox, oy, oz, wd, hS, nO, fo, vL, nx, en, wO, nW, tR, mT) (nI kk) v2 v3 v4 → wpY_signal postY (sN, sC, sW, pP, yd, yw, kd, ox, oy, oz, wd, hS, nO, fo, vL, nx, en, wO, nW, tR, mT) (nI kk) v2 v3 v4 := by
      intro postY hp
      unfold wpY_signal
      exact br_f yN (br_f kp (br_f k18 hp))
    refine fx_fit a2 a1 a3 kk18 (fun ft => br_f (by decide) ?_) (fun nft => br_t rfl ?_)
    · have ix2 : 3 ≤ kk → vp_in v2 24 := fun q => by
        obtain ⟨a, b1, b2, -⟩ := ft.2 q
        rw [b2]; exact vp_in_nI (by omega) (by omega)
      have ix3 : kk = 12 ∨ kk = 15 → vp_in v3 24 := fun q => by
        have q3 : 3 ≤ kk := by omega
        have q4 : 4 ≤ kk := by omega
        have q15 : kk ≤ 15 := by omega
        obtain ⟨a, b1, b2, -, -, f⟩ := ft.2 q3
        obtain ⟨b, c1, c2, -⟩ := f q4 q15
        rw [c2]; exact vp_in_nI (Nat.lt_of_lt_of_le c1 a2) (by decide)
      refine fx_width kk18 ix2 ix3 ?_
      generalize hwv : wf_v wd kk v2 v3 v4 = wv
      -- the reference up to the width
      have yy1 : ∀ postY : Int32 → SY → Prop, ((wv < 1 → postY (-1) (sN, sC, sW, pP, yd, yw, kd, ox, oy, oz, wd, hS, nO, fo, vL, nx, en, wO, nW, tR, mT)) ∧ (¬ wv < 1 → (wv ≤ 6 → wpY_costOf (fun r_51 => (nI kk = 0 → wY_signal_81 postY (nI kk) v2 v3 v4 wv r_51 sN sC sW pP yd yw kd ox oy oz wd hS nO fo vL nx en wO nW tR mT) ∧ (¬ nI kk = 0 → (nI kk = 2 → wY_signal_81 postY (nI kk) v2 v3 v4 wv r_51 sN sC sW pP yd yw kd ox oy oz wd hS nO fo vL nx en wO nW tR mT) ∧ (¬ nI kk = 2 → wY_signal_86 postY (nI kk) v2 v3 v4 wv r_51 0 sN sC sW pP yd yw kd ox oy oz wd hS nO fo vL nx en wO nW tR mT))) (sN, sC, sW, pP, yd, yw, kd, ox, oy, oz, wd, hS, nO, fo, vL, nx, en, wO, nW, tR, mT) (nI kk) v2 wv) ∧ (¬ wv ≤ 6 → postY (-1) (sN, sC, sW, pP, yd, yw, kd, ox, oy, oz, wd, hS, nO, fo, vL, nx, en, wO, nW, tR, mT)))) → wpY_signal postY (sN, sC, sW, pP, yd, yw, kd, ox, oy, oz, wd, hS, nO, fo, vL, nx, en, wO, nW, tR, mT) (nI kk) v2 v3 v4 := by
        intro postY hp
        refine yy0 postY (fy_fit a2 a1 a3 kk18 (fun _ => br_f (by decide) ?_) (fun n => absurd ft n))
        refine fy_width kk18 ix2 ix3 ?_
        rw [hwv]
        exact hp
      by_cases hw : ∃ W, W < 7 ∧ wv = nI W
      · obtain ⟨W, w7, rfl⟩ := hw
        refine pk_lt W 1 (fun l => ?_) (fun l => ?_)
        · exact yy1 _ (br_t (nI_lt (b := 1) l (by omega)) ⟨rfl, rel⟩)
        have w1n : ¬ nI W < 1 := nI_nlt (b := 1) l (by omega)
        have w6y : nI W ≤ 6 := nI_le (b := 6) (by omega) (by omega)
        refine br_t w6y ?_
        have hxc : kk = 10 ∨ kk = 11 ∨ kk = 17 → vp_in v2 24 ∧ wd v2.toNatClampNeg = nI (cl_n wd v2.toNatClampNeg) := fun q => by
          have q3 : 3 ≤ kk := by omega
          obtain ⟨a, b1, b2, -⟩ := ft.2 q3
          have e : v2.toNatClampNeg = a := by rw [b2]; exact nI_clamp (Nat.lt_of_lt_of_le b1 (Nat.le_trans a2 (by decide)))
          rw [e]
          exact ⟨ix2 q3, (a3 a b1).2.2.1⟩
        refine fx_cost (Wx := cl_n wd v2.toNatClampNeg) kk18 hxc ?_
        generalize hcc : gc_c kk W (cl_n wd v2.toNatClampNeg) + nc_c kk W = cc
        have cc400 : cc ≤ 4000 := by
          rw [← hcc]
          have g6 : cl_n wd v2.toNatClampNeg ≤ 6 ∨ kk < 3 := by
            by_cases q3 : 3 ≤ kk
            · obtain ⟨a, b1, b2, -⟩ := ft.2 q3
              have e : v2.toNatClampNeg = a := by rw [b2]; exact nI_clamp (Nat.lt_of_lt_of_le b1 (Nat.le_trans a2 (by decide)))
              rw [e]
              exact Or.inl (a3 a b1).2.2.2.2.1
            · exact Or.inr (Nat.lt_of_not_le q3)
          have ww : 10 * W * W ≤ 10 * 6 * 6 := Nat.mul_le_mul (Nat.mul_le_mul_left 10 (Nat.le_of_lt_succ w7)) (Nat.le_of_lt_succ w7)
          have n3 : nc_c kk W ≤ 3 * W := by unfold nc_c; split <;> omega
          have g3 : gc_c kk W (cl_n wd v2.toNatClampNeg) ≤ 3900 := by
            rcases g6 with g6 | g6
            · unfold gc_c
              repeat (first | omega | split)
            · rw [gc_cg (wx' := cl_n wd v2.toNatClampNeg) (wx := 0) (fun q => absurd g6 (Nat.not_lt.mpr q))]
              unfold gc_c
              repeat (first | omega | split)
          omega
        -- the reference up to the cost
        have yy2 : ∀ postY : Int32 → SY → Prop, ((nI kk = 0 → wY_signal_81 postY (nI kk) v2 v3 v4 (nI W) (nI cc) sN sC sW pP yd yw kd ox oy oz wd hS nO fo vL nx en wO nW tR mT) ∧ (¬ nI kk = 0 → (nI kk = 2 → wY_signal_81 postY (nI kk) v2 v3 v4 (nI W) (nI cc) sN sC sW pP yd yw kd ox oy oz wd hS nO fo vL nx en wO nW tR mT) ∧ (¬ nI kk = 2 → wY_signal_86 postY (nI kk) v2 v3 v4 (nI W) (nI cc) 0 sN sC sW pP yd yw kd ox oy oz wd hS nO fo vL nx en wO nW tR mT))) → wpY_signal postY (sN, sC, sW, pP, yd, yw, kd, ox, oy, oz, wd, hS, nO, fo, vL, nx, en, wO, nW, tR, mT) (nI kk) v2 v3 v4 := by
          intro postY hp
          refine yy1 postY (br_f w1n (br_t w6y ?_))
          refine fy_cost (Wx := cl_n wd v2.toNatClampNeg) kk18 hxc ?_
          rw [hcc]
          exact hp
        generalize hC : gc_n kd ox wd N + nc_n kd wd N = C at a7 a8
        generalize hH : hs_n kd wd N = H at a9 a10
        -- state or not
        have main : ∀ z0 : Int32, ((z0 = 0 ∧ ¬ (kk = 0 ∨ kk = 2)) ∨ (z0 = 1 ∧ (kk = 0 ∨ kk = 2))) → (∀ postY : Int32 → SY → Prop, wY_signal_86 postY (nI kk) v2 v3 v4 (nI W) (nI cc) z0 sN sC sW pP yd yw kd ox oy oz wd hS nO fo vL nx en wO nW tR mT → wpY_signal postY (sN, sC, sW, pP, yd, yw, kd, ox, oy, oz, wd, hS, nO, fo, vL, nx, en, wO, nW, tR, mT) (nI kk) v2 v3 v4) →
            wX_signal_86 (fun r u' => wpY_signal (fun r' v' => r' = r ∧ i_Rel (k + 5) u' v') (sN, sC, sW, pP, yd, yw, kd, ox, oy, oz, wd, hS, nO, fo, vL, nx, en, wO, nW, tR, mT) (nI kk) v2 v3 v4) (nI kk) v2 v3 v4 (nI W) (nI cc) z0 sN sC sW pP pD pE nc tc lV bU pL wH sE kd ox oy oz wd fo su rd dp nx en hS wO nO nW la lb nl fl eo so ne io td tf tb vA cH mK cA sK := by
          intro z0 hz YS
          unfold wX_signal_86
          have eC : sC + nI cc = nI (C + cc) := by rw [a7, nI_add]
          have eH : sW + nI W = nI (H + W) := by rw [a9, nI_add]
          rw [eC, eH]
          refine pk_lt 220 (C + cc) (fun l1 => ?_) (fun l1 => ?_)
          · refine YS _ ?_
            unfold wY_signal_86
            rw [eC]
            exact br_t (nI_lt (a := 220) l1 (by omega)) ⟨rfl, rel⟩
          have c220 : ¬ (220 : Int32) < nI (C + cc) := nI_nlt (a := 220) l1 (by omega)
          -- the new signal
          have fin121 : ∀ (sW' : Int32), ((z0 = 0 ∧ sW' = sW) ∨ (z0 = 1 ∧ sW' = nI (H + W) ∧ H + W ≤ 60)) → (∀ postY : Int32 → SY → Prop, wY_signal_148 postY (nI kk) v2 v3 v4 (nI W) sN (nI (C + cc)) sW' pP yd yw kd ox oy oz wd hS nO fo vL nx en wO nW tR mT → wpY_signal postY (sN, sC, sW, pP, yd, yw, kd, ox, oy, oz, wd, hS, nO, fo, vL, nx, en, wO, nW, tR, mT) (nI kk) v2 v3 v4) →
              wX_signal_164 (fun r u' => wpY_signal (fun r' v' => r' = r ∧ i_Rel (k + 5) u' v') (sN, sC, sW, pP, yd, yw, kd, ox, oy, oz, wd, hS, nO, fo, vL, nx, en, wO, nW, tR, mT) (nI kk) v2 v3 v4) (nI kk) v2 v3 v4 (nI W) z0 (nI N) (nI (N + 1)) (nI (C + cc)) sW' pP pD pE nc tc lV bU pL wH sE kd ox oy oz wd fo su rd dp nx en hS wO nO nW la lb nl fl eo so ne io td tf tb vA cH mK cA sK := by
            intro sW' hsw YS2
            have hin : vp_in (nI N) 24 := vp_in_nI hN24 (by omega)
            have hc : (nI N).toNatClampNeg = N := nI_clamp (by omega)
            have dN : df_s (upd kd N (nI kk)) (upd ox N v2) (upd oy N v3) (upd oz N v4) (upd wd N (nI W)) N := df_new a2 a3 kk18 l (by omega) ft hwv pk_us pk_us pk_us pk_us pk_us (fun t ht => pk_un (by omega))
            have dO : ∀ t, t < N → df_s (upd kd N (nI kk)) (upd ox N v2) (upd oy N v3) (upd oz N v4) (upd wd N (nI W)) t := fun t ht => df_old (fun t ht => pk_un (by omega)) (fun t ht => pk_un (by omega)) (fun t ht => pk_un (by omega)) (fun t ht => pk_un (by omega)) (fun t ht => pk_un (by omega)) ht (a3 t ht)
            have ckN : cl_n (upd kd N (nI kk)) N = kk := by show (upd kd N (nI kk) N).toNatClampNeg = kk; rw [pk_us]; exact nI_clamp (by omega)
            have cwN : cl_n (upd wd N (nI W)) N = W := by show (upd wd N (nI W) N).toNatClampNeg = W; rw [pk_us]; exact nI_clamp (by omega)
            have cwO : ∀ t, t < N → cl_n (upd wd N (nI W)) t = cl_n wd t := fun t ht => cl_eq (pk_un (by omega))
            have kst : (upd kd N (nI kk) N = 0 ∨ upd kd N (nI kk) N = 2) ↔ (kk = 0 ∨ kk = 2) := by
              rw [pk_us]
              constructor
              · rintro (e | e)
                · exact Or.inl ((nI_eq (b := 0) (by omega) (by omega)).mp e)
                · exact Or.inr ((nI_eq (b := 2) (by omega) (by omega)).mp e)
              · rintro (e | e)
                · rw [e]; exact Or.inl rfl
                · rw [e]; exact Or.inr rfl
            -- the first value of the state
            have st0 : ∃ m, (if kk = 2 then v3 else 0) = nI m ∧ m < 2 ^ W ∧ m < 64 := by
              have p2 : (2 : Nat) ^ W ≤ 2 ^ 6 := Nat.pow_le_pow_right (by decide) (by omega)
              have p0 := Nat.two_pow_pos W
              by_cases q : kk = 2
              · rw [if_pos q]
                have y := dN.2.2.2.2.2.2.2.2.1 (Or.inr (ckN.trans q))
                have e : upd oy N v3 N = v3 := pk_us
                have e2 : cl_n (upd oy N v3) N = v3.toNatClampNeg := congrArg Int32.toNatClampNeg e
                rw [e, e2, cwN] at y
                exact ⟨_, y.1, y.2, by omega⟩
              · rw [if_neg q]
                exact ⟨0, rfl, p0, by omega⟩
            obtain ⟨m0, m1, m2, m3⟩ := st0
            have sums := sum_old (kd' := upd kd N (nI kk)) (ox' := upd ox N v2) (wd' := upd wd N (nI W)) (fun t ht => pk_un (by omega)) (fun t ht => pk_un (by omega)) (fun t ht => pk_un (by omega)) a3 N (Nat.le_refl _)
            have oxN : cl_n (upd ox N v2) N = v2.toNatClampNeg := congrArg Int32.toNatClampNeg pk_us
            have gcN : gc_c kk W (cl_n (upd wd N (nI W)) (cl_n (upd ox N v2) N)) = gc_c kk W (cl_n wd v2.toNatClampNeg) := gc_cg (fun q => by
              rw [oxN]
              obtain ⟨a, b1, b2, -⟩ := ft.2 q
              have e : v2.toNatClampNeg = a := by rw [b2]; exact nI_clamp (Nat.lt_of_lt_of_le b1 (Nat.le_trans a2 (by decide)))
              rw [e]
              exact cwO a b1)
            have totC : gc_n (upd kd N (nI kk)) (upd ox N v2) (upd wd N (nI W)) (N + 1) + nc_n (upd kd N (nI kk)) (upd wd N (nI W)) (N + 1) = C + cc := by
              show (gc_n _ _ _ N + gc_c (cl_n (upd kd N (nI kk)) N) (cl_n (upd wd N (nI W)) N) (cl_n (upd wd N (nI W)) (cl_n (upd ox N v2) N))) + (nc_n _ _ N + nc_c (cl_n (upd kd N (nI kk)) N) (cl_n (upd wd N (nI W)) N)) = _
              rw [sums.1, sums.2.1, ckN, cwN, gcN, ← hC, ← hcc]
              omega
            have totH : hs_n (upd kd N (nI kk)) (upd wd N (nI W)) (N + 1) = H + hd_c kk W := by
              show hs_n _ _ N + hd_c (cl_n (upd kd N (nI kk)) N) (cl_n (upd wd N (nI W)) N) = _
              rw [sums.2.2, ckN, cwN, hH]
            have swOK : sW' = nI (H + hd_c kk W) ∧ H + hd_c kk W ≤ 60 := by
              rcases hz with ⟨z1, z2⟩ | ⟨z1, z2⟩
              · have e : hd_c kk W = 0 := if_neg z2
                rcases hsw with ⟨y1, y2⟩ | ⟨y1, y2⟩
                · rw [e, y2, a9]; exact ⟨rfl, a10⟩
                · rw [z1] at y1; exact absurd y1 (by decide)
              · have e : hd_c kk W = W := if_pos z2
                rcases hsw with ⟨y1, y2⟩ | ⟨y1, y2, y3⟩
                · rw [z1] at y1; exact absurd y1 (by decide)
                · rw [e]; exact ⟨y2, y3⟩
            -- the relation of what comes out
            have relN : ∀ su' rd' dp' : Nat → Int32, (∀ t, t ≠ N → su' t = su t ∧ rd' t = rd t ∧ dp' t = dp t) → lk_s (upd kd N (nI kk)) (upd ox N v2) (upd oy N v3) (upd oz N v4) su' rd' dp' N →
                i_Rel (k + 5) (nI (N + 1), nI (C + cc), sW', pP, pD, pE, nc, tc, lV, 0, pL, wH, sE, upd kd N (nI kk), upd ox N v2, upd oy N v3, upd oz N v4, upd wd N (nI W), upd fo N (-1), su', rd', dp', upd nx N (-1), upd en N (-1), upd hS N (nI m0), wO, upd nO N (nI m0), nW, la, lb, nl, fl, eo, so, ne, io, td, tf, tb, vA, cH, mK, cA, sK)
                  (nI (N + 1), nI (C + cc), sW', pP, yd, yw, upd kd N (nI kk), upd ox N v2, upd oy N v3, upd oz N v4, upd wd N (nI W), upd hS N (nI m0), upd nO N (nI m0), upd fo N (-1), vL, upd nx N (-1), upd en N (-1), wO, nW, tR, mT) := by
              intro su' rd' dp' g1 g2
              have upS : ∀ f g : Nat → Int32, st_ok wd N f g → st_ok (upd wd N (nI W)) (N + 1) (upd f N (nI m0)) g := by
                intro f g hf
                refine ⟨fun s hs => ?_, hf.2⟩
                by_cases e : s = N
                · have e1 : upd f N (nI m0) s = nI m0 := by rw [e]; exact pk_us
                  have e2 : cl_n (upd f N (nI m0)) s = m0 := by show (upd f N (nI m0) s).toNatClampNeg = m0; rw [e1]; exact nI_clamp (by omega)
                  rw [e1, e2]
                  exact ⟨rfl, m3, fun _ => by rw [e, cwN]; exact m2⟩
                · have e1 : upd f N (nI m0) s = f s := pk_un e
                  rw [cl_eq e1, e1]
                  have q := hf.1 s hs
                  exact ⟨q.1, q.2.1, fun hlt => by rw [cwO s (by omega)]; exact q.2.2 (by omega)⟩
              refine zz_mk (N := N + 1) ⟨⟨rfl, by omega, fun t ht => ?_, fun t ht => ?_, fun t ht kt => ?_, ?_, by rw [totC], by rw [totC]; omega, by rw [totH]; exact swOK.1, by rw [totH]; exact swOK.2, fun t ht => ?_⟩, upS _ _ h2, upS _ _ h3, ⟨h4.1, Or.inl rfl, h4.2.2⟩, fun b => absurd b (by decide), h6⟩
              · by_cases e : t = N
                · rw [e]; exact dN
                · exact dO t (by omega)
              · by_cases e : t = N
                · rw [e, pk_us]; exact Or.inl rfl
                · rw [pk_un e, cwO t (by omega)]; exact a4 t (by omega)
              · by_cases e : t = N
                · rw [e, pk_us, pk_us]; exact ⟨Or.inl rfl, Or.inl rfl⟩
                · rw [pk_un e] at kt
                  rw [pk_un e, pk_un e]
                  obtain ⟨q1, q2⟩ := a5 t (by omega) kt
                  refine ⟨?_, ?_⟩
                  · rcases q1 with z | ⟨s, s1, s2, s3⟩
                    · exact Or.inl z
                    · exact Or.inr ⟨s, s1, by omega, by rw [cwO s s2, cwO t (by omega)]; exact s3⟩
                  · rcases q2 with z | ⟨s, s1, s2, s3⟩
                    · exact Or.inl z
                    · exact Or.inr ⟨s, s1, by omega, by rw [cwO s s2]; exact s3⟩
              · rcases a6 with z | ⟨p, d, e, z1, z2, z3, z4, z5, z6, z7, z8, z9⟩
                · exact Or.inl z
                · exact Or.inr ⟨p, d, e, z1, z2, z3, by omega, by omega, by omega, by rw [cwO p z4]; exact z7, by rw [cwO d z5]; exact z8, by rw [cwO e z6]; exact z9⟩
              · by_cases e : t = N
                · rw [e]; exact g2
                · exact lk_old (fun t ht => pk_un (by omega)) (fun t ht => pk_un (by omega)) (fun t ht => pk_un (by omega)) (fun t ht => pk_un (by omega)) (fun t ht => g1 t (by omega)) (show t < N by omega) (a3 t (by omega)) (a11 t (by omega))
            -- X's stores
            unfold wX_signal_164
            refine ⟨hin, ?_⟩
            intro x1 e1
            refine ⟨hin, ?_⟩
            intro x2 e2
            refine ⟨hin, ?_⟩
            intro x3 e3
            refine ⟨hin, ?_⟩
            intro x4 e4
            refine ⟨hin, ?_⟩
            intro x5 e5
            refine ⟨hin, ?_⟩
            intro x6 e6
            refine ⟨hin, ?_⟩
            intro x7 e7
            refine ⟨hin, ?_⟩
            intro x8 e8
            rw [hc, nr_b (by omega)] at e1 e5
            rw [hc] at e2 e3 e4
            rw [hc, nr_bm] at e6 e7 e8
            subst e1 e2 e3 e4 e5 e6 e7 e8
            have h248 : ∀ zz : Int32, zz = nI m0 → wX_signal_248 (fun r u' => wpY_signal (fun r' v' => r' = r ∧ i_Rel (k + 5) u' v') (sN, sC, sW, pP, yd, yw, kd, ox, oy, oz, wd, hS, nO, fo, vL, nx, en, wO, nW, tR, mT) (nI kk) v2 v3 v4) z0 (nI N) zz (nI N) (nI (N + 1)) (nI (C + cc)) sW' pP pD pE nc tc lV bU pL wH sE (upd kd N (nI kk)) (upd ox N v2) (upd oy N v3) (upd oz N v4) (upd wd N (nI W)) (upd fo N (-1)) su rd dp (upd nx N (-1)) (upd en N (-1)) hS wO nO nW la lb nl fl eo so ne io td tf tb vA cH mK cA sK := by
              intro zz ezz
              unfold wX_signal_248
              refine ⟨hin, ?_⟩
              intro hS' eh
              rw [hc, ezz, nr_b (by omega)] at eh
              refine ⟨hin, hin, ?_⟩
              intro nO' en'
              rw [hc, eh, pk_us, nr_b0 (by omega)] at en'
              subst eh en'
              refine lb_look hN24 dN (fun t ht => lk_old (wd := wd) (fun t ht => pk_un (by omega)) (fun t ht => pk_un (by omega)) (fun t ht => pk_un (by omega)) (fun t ht => pk_un (by omega)) (fun t ht => ⟨rfl, rfl, rfl⟩) ht (a3 t ht) (a11 t ht)) ?_ ?_
              · rcases hz with ⟨z1, z2⟩ | ⟨z1, z2⟩
                · exact Or.inl ⟨z1, fun q => z2 (kst.mp q)⟩
                · exact Or.inr ⟨z1, kst.mpr z2⟩
              · intro su' rd' dp' g1 g2
                have rl := relN su' rd' dp' g1 g2
                refine YS2 _ ?_
                unfold wY_signal_148
                rw [a1]
                refine ⟨hin, ?_⟩
                intro y1 f1
                refine ⟨hin, ?_⟩
                intro y2 f2
                refine ⟨hin, ?_⟩
                intro y3 f3
                refine ⟨hin, ?_⟩
                intro y4 f4
                refine ⟨hin, ?_⟩
                intro y5 f5
                rw [hc] at f1 f2 f3 f4 f5
                subst f1 f2 f3 f4 f5
                have y218 : ∀ zz : Int32, zz = nI m0 → wY_signal_218 (fun r' v' => r' = nI N ∧ i_Rel (k + 5) (nI (N + 1), nI (C + cc), sW', pP, pD, pE, nc, tc, lV, 0, pL, wH, sE, upd kd N (nI kk), upd ox N v2, upd oy N v3, upd oz N v4, upd wd N (nI W), upd fo N (-1), su', rd', dp', upd nx N (-1), upd en N (-1), upd hS N (nI m0), wO, upd nO N (nI m0), nW, la, lb, nl, fl, eo, so, ne, io, td, tf, tb, vA, cH, mK, cA, sK) v') zz (nI N) (nI N) (nI (C + cc)) sW' pP yd yw (upd kd N (nI kk)) (upd ox N v2) (upd oy N v3) (upd oz N v4) (upd wd N (nI W)) hS nO fo vL nx en wO nW tR mT := by
                  intro zz ezz
                  unfold wY_signal_218
                  refine ⟨hin, ?_⟩
                  intro w1 q1
                  refine ⟨hin, hin, ?_⟩
                  intro w2 q2
                  refine ⟨hin, ?_⟩
                  intro w3 q3
                  refine ⟨hin, ?_⟩
                  intro w4 q4
                  refine ⟨hin, ?_⟩
                  intro w5 q5
                  intro w6 q6
                  rw [hc, ezz] at q1
                  rw [hc, q1, pk_us] at q2
                  rw [hc] at q3 q4 q5
                  have q7 := q6.trans (nI_1 N)
                  subst q1 q2 q3 q4 q5 q7
                  exact ⟨nI_pred N, rl⟩
                refine br_c (fun q => y218 v3 ?_) (fun q => y218 0 ?_)
                · rw [← m1, if_pos ((nI_eq (b := 2) (by omega) (by omega)).mp q)]
                · rw [← m1, if_neg (fun e => q (by rw [e]; rfl))]
            refine br_c (fun q => h248 v3 ?_) (fun q => h248 0 ?_)
            · rw [← m1, if_pos ((nI_eq (b := 2) (by omega) (by omega)).mp q)]
            · rw [← m1, if_neg (fun e => q (by rw [e]; rfl))]
          -- the walk from 86 on
          have x121 : ∀ (sW' : Int32), wX_signal_164 (fun r u' => wpY_signal (fun r' v' => r' = r ∧ i_Rel (k + 5) u' v') (sN, sC, sW, pP, yd, yw, kd, ox, oy, oz, wd, hS, nO, fo, vL, nx, en, wO, nW, tR, mT) (nI kk) v2 v3 v4) (nI kk) v2 v3 v4 (nI W) z0 (nI N) (nI (N + 1)) (nI (C + cc)) sW' pP pD pE nc tc lV bU pL wH sE kd ox oy oz wd fo su rd dp nx en hS wO nO nW la lb nl fl eo so ne io td tf tb vA cH mK cA sK → ((z0 = 0 ∧ sW' = sW) ∨ (¬ z0 = 0 ∧ sW' = nI (H + W))) → wX_signal_121 (fun r u' => wpY_signal (fun r' v' => r' = r ∧ i_Rel (k + 5) u' v') (sN, sC, sW, pP, yd, yw, kd, ox, oy, oz, wd, hS, nO, fo, vL, nx, en, wO, nW, tR, mT) (nI kk) v2 v3 v4) (nI kk) v2 v3 v4 (nI W) (nI cc) z0 sN sC sW pP pD pE nc tc lV bU pL wH sE kd ox oy oz wd fo su rd dp nx en hS wO nO nW la lb nl fl eo so ne io td tf tb vA cH mK cA sK := by
            intro sW' hx hh
            unfold wX_signal_121
            intro n' en'
            intro c' ec'
            rw [a1, nI_1] at en'
            rw [eC] at ec'
            subst en' ec'
            rw [← a1] at hx
            rcases hh with ⟨y1, y2⟩ | ⟨y1, y2⟩
            · rw [y2] at hx
              exact br_t y1 hx
            · refine br_f y1 ?_
              intro w' ew'
              rw [eH, ← y2] at ew'
              subst ew'
              exact hx
          have y121 : ∀ (postY : Int32 → SY → Prop) (sW' : Int32), wY_signal_148 postY (nI kk) v2 v3 v4 (nI W) sN (nI (C + cc)) sW' pP yd yw kd ox oy oz wd hS nO fo vL nx en wO nW tR mT → ((z0 = 0 ∧ sW' = sW) ∨ (¬ z0 = 0 ∧ sW' = nI (H + W))) → wY_signal_121 postY (nI kk) v2 v3 v4 (nI W) (nI cc) z0 sN sC sW pP yd yw kd ox oy oz wd hS nO fo vL nx en wO nW tR mT := by
            intro postY sW' hx hh
            unfold wY_signal_121
            intro c' ec'
            rw [eC] at ec'
            subst ec'
            rcases hh with ⟨y1, y2⟩ | ⟨y1, y2⟩
            · rw [y2] at hx
              exact br_t y1 hx
            · refine br_f y1 ?_
              intro w' ew'
              rw [eH, ← y2] at ew'
              subst ew'
              exact hx
          rcases hz with ⟨z1, z2⟩ | ⟨z1, z2⟩
          · have hh : (z0 = 0 ∧ sW = sW) ∨ (¬ z0 = 0 ∧ sW = nI (H + W)) := Or.inl ⟨z1, rfl⟩
            refine br_t z1 (x121 sW (fin121 sW (Or.inl ⟨z1, rfl⟩) (fun postY hp => YS postY ?_)) hh)
            unfold wY_signal_86
            rw [eC]
            exact br_f c220 (br_t z1 (y121 postY sW hp hh))
          · have zn : ¬ z0 = 0 := by rw [z1]; decide
            have hh : (z0 = 0 ∧ nI (H + W) = sW) ∨ (¬ z0 = 0 ∧ nI (H + W) = nI (H + W)) := Or.inr ⟨zn, rfl⟩
            refine br_f zn (pk_le (H + W) 60 (fun l2 => ?_) (fun l2 => ?_))
            · refine x121 (nI (H + W)) (fin121 (nI (H + W)) (Or.inr ⟨z1, rfl, l2⟩) (fun postY hp => YS postY ?_)) hh
              unfold wY_signal_86
              rw [eC, eH]
              exact br_f c220 (br_f zn (br_t (nI_le (b := 60) l2 (by omega)) (y121 postY (nI (H + W)) hp hh)))
            · refine YS _ ?_
              unfold wY_signal_86
              rw [eC, eH]
              exact br_f c220 (br_f zn (br_f (nI_ge (a := 60) l2 (by omega)) ⟨rfl, rel⟩))
        have m1 : (kk = 0 ∨ kk = 2) → (∀ postY : Int32 → SY → Prop, wY_signal_86 postY (nI kk) v2 v3 v4 (nI W) (nI cc) 1 sN sC sW pP yd yw kd ox oy oz wd hS nO fo vL nx en wO nW tR mT → wpY_signal postY (sN, sC, sW, pP, yd, yw, kd, ox, oy, oz, wd, hS, nO, fo, vL, nx, en, wO, nW, tR, mT) (nI kk) v2 v3 v4) := by
          intro q postY hp
          refine yy2 postY ?_
          have h81 : wY_signal_81 postY (nI kk) v2 v3 v4 (nI W) (nI cc) sN sC sW pP yd yw kd ox oy oz wd hS nO fo vL nx en wO nW tR mT := by unfold wY_signal_81; exact hp
          refine br_c (fun _ => h81) (fun n0 => br_c (fun _ => h81) (fun n2 => ?_))
          exfalso
          rcases q with q | q
          · exact n0 (by rw [q]; rfl)
          · exact n2 (by rw [q]; rfl)
        refine pk_eq kk 0 (fun e => ?_) (fun n0 => pk_eq kk 2 (fun e => ?_) (fun n2 => ?_))
        · unfold wX_signal_81
          exact main 1 (Or.inr ⟨rfl, Or.inl e⟩) (m1 (Or.inl e))
        · unfold wX_signal_81
          exact main 1 (Or.inr ⟨rfl, Or.inr e⟩) (m1 (Or.inr e))
        · refine main 0 (Or.inl ⟨rfl, fun q => by rcases q with q | q; exact n0 q; exact n2 q⟩) (fun postY hp => yy2 postY ?_)
          exact br_f (fun e => n0 ((nI_eq (b := 0) (by omega) (by omega)).mp e)) (br_f (fun e => n2 ((nI_eq (b := 2) (by omega) (by omega)).mp e)) hp)
      · rcases ix_no (by omega) hw with z | ⟨z1, z2⟩
        · have l1 : wv < 1 := Int32.lt_trans z (by decide)
          exact br_t l1 (yy1 _ (br_t l1 ⟨rfl, rel⟩))
        · have l6 : (6 : Int32) < wv := Int32.lt_of_lt_of_le (by decide : (6 : Int32) < nI 7) z2
          have n1 : ¬ wv < 1 := fun y => by
            have : wv < wv := Int32.lt_trans (Int32.lt_trans y (by decide : (1 : Int32) < 6)) l6
            exact absurd this (fun w => Int32.lt_irrefl w)
          have n6 : ¬ wv ≤ 6 := Int32.not_le.mpr l6
          exact br_f n1 (br_f n6 (yy1 _ (br_f n1 (br_f n6 ⟨rfl, rel⟩))))
    · exact yy0 _ (fy_fit a2 a1 a3 kk18 (fun f => absurd f nft) (fun _ => br_t rfl ⟨rfl, rel⟩))
  · rcases ix_no (by omega) hkk with z | ⟨z1, z2⟩
    · refine br_t z ?_
      unfold wpY_signal
      exact br_f yN (br_t z ⟨rfl, rel⟩)
    · have l : (18 : Int32) < v1 := Int32.lt_of_lt_of_le (by decide : (18 : Int32) < nI 19) z2
      refine br_f z1 (br_t l ?_)
      unfold wpY_signal
      exact br_f yN (br_f z1 (br_t l ⟨rfl, rel⟩))
end
section
/-! the support: the reference's marks, X's sets -/
/-- marked signals -/
def mt_c (kd ox oy oz mT : Nat → Int32) (a : Nat) : Prop := (3 ≤ cl_n kd a → mT (cl_n ox a) = 1) ∧ (4 ≤ cl_n kd a → cl_n kd a ≤ 15 → mT (cl_n oy a) = 1) ∧ (cl_n kd a = 12 → mT (cl_n oz a) = 1)
/-- all that is behind a marked one is behind the two -/
def mt_j (su rd : Nat → Int32) (s t m : Nat) : Prop := (∀ j, j < 32 → bt (su m) j = true → (bt (su s) j || bt (su t) j) = true) ∧ (rd m = 1 → rd s = 1 ∨ rd t = 1)
def mt_ok (N : Nat) (su rd mT : Nat → Int32) (s t : Nat) : Prop := (∀ m, m < N → mT m = 0 ∨ mT m = 1) ∧ mT s = 1 ∧ mT t = 1 ∧ ∀ m, m < N → mT m = 1 → mt_j su rd s t m
theorem mj_x {kd ox oy oz su rd dp : Nat → Int32} {s t m : Nat} (l : lk_s kd ox oy oz su rd dp m) (h : mt_j su rd s t m) : (3 ≤ cl_n kd m → mt_j su rd s t (cl_n ox m)) ∧ (4 ≤ cl_n kd m → cl_n kd m ≤ 15 → mt_j su rd s t (cl_n oy m)) ∧ (cl_n kd m = 12 → mt_j su rd s t (cl_n oz m)) := by
  obtain ⟨l1, -, l3, -⟩ := l
  refine ⟨fun q => ⟨fun j hj e => h.1 j hj ?_, fun e => h.2 (l3.mpr (Or.inr (Or.inl ⟨q, e⟩)))⟩, fun q q2 => ⟨fun j hj e => h.1 j hj ?_, fun e => h.2 (l3.mpr (Or.inr (Or.inr (Or.inl ⟨⟨q, q2⟩, e⟩))))⟩, fun q => ⟨fun j hj e => h.1 j hj ?_, fun e => h.2 (l3.mpr (Or.inr (Or.inr (Or.inr ⟨q, e⟩))))⟩⟩
  · rw [l1 j hj, e]; simp [q]
  · rw [l1 j hj, e]; simp [q, q2]
  · rw [l1 j hj, e]; simp [q]
def ws_n (ki wi mT : Nat → Int32) : Nat → Nat
  | 0 => 0
  | q + 1 => ws_n ki wi mT q + (if mT q = 1 ∧ (ki q = 0 ∨ ki q = 2) then cl_n wi q else 0)
def sr_p (N : Nat) (ki wi mT : Nat → Int32) (r : Int32) : Prop := ((∃ m, m < N ∧ mT m = 1 ∧ ki m = 18) ∧ r = -1) ∨ ((¬ ∃ m, m < N ∧ mT m = 1 ∧ ki m = 18) ∧ ((ws_n ki wi mT N ≤ 8 ∧ r = nI (ws_n ki wi mT N)) ∨ (8 < ws_n ki wi mT N ∧ r = -1)))
section
variable {yn yc yh yp yd yw : Int32} {ki eX eY eZ wi sT nT fR vL nX eN mE nM tR mT : Nat → Int32}
theorem ys_46 {post : Int32 → SY → Prop} {N : Nat} (hN : N ≤ 24) (hyn : yn = nI N) (hw : ∀ t, t < N → wi t = nI (cl_n wi t) ∧ cl_n wi t ≤ 6) (hm : ∀ m, m < N → mT m = 0 ∨ mT m = 1) (K : ∀ r, sr_p N ki wi mT r → post r (yn, yc, yh, yp, yd, yw, ki, eX, eY, eZ, wi, sT, nT, fR, vL, nX, eN, mE, nM, tR, mT)) :
    ∀ (d q : Nat), N < d + q → q ≤ N → ws_n ki wi mT q ≤ 6 * q → (¬ ∃ m, m < q ∧ mT m = 1 ∧ ki m = 18) → wY_support_46 post yn yc yh yp yd yw ki eX eY eZ wi sT nT fR vL nX eN mE nM tR mT d (nI (ws_n ki wi mT q)) (nI q) := by
  intro d
  induction d with
  | zero => intro q h1 h2; omega
  | succ d ih =>
    intro q h1 h2 hb hI
    unfold wY_support_46
    refine pk_le N q (fun hle => ?_) (fun hlt => ?_) hyn
    · have e : q = N := by omega
      subst e
      refine pk_le (ws_n ki wi mT q) 8 (fun l => K _ (Or.inr ⟨hI, Or.inl ⟨l, rfl⟩⟩)) (fun l => K _ (Or.inr ⟨hI, Or.inr ⟨l, rfl⟩⟩))
    · have hin : vp_in (nI q) 24 := vp_in_nI (by omega) (by omega)
      have hc : (nI q).toNatClampNeg = q := nI_clamp (by omega)
      have wss : ws_n ki wi mT (q + 1) = ws_n ki wi mT q + (if mT q = 1 ∧ (ki q = 0 ∨ ki q = 2) then cl_n wi q else 0) := rfl
      have wq := hw q hlt
      have next : (¬ (mT q = 1 ∧ ki q = 18)) → ∀ x, x = nI (ws_n ki wi mT (q + 1)) → wY_support_46 post yn yc yh yp yd yw ki eX eY eZ wi sT nT fR vL nX eN mE nM tR mT d x (nI (q + 1)) := by
        intro n18 x hx
        subst hx
        refine ih (q + 1) (by omega) (by omega) ?_ ?_
        · rw [wss]; split <;> omega
        · rintro ⟨m, m1, m2, m3⟩
          by_cases e : m = q
          · rw [e] at m2 m3; exact n18 ⟨m2, m3⟩
          · exact hI ⟨m, by omega, m2, m3⟩
      have h79 : (¬ (mT q = 1 ∧ ki q = 18)) → wY_support_79 post (wY_support_46 post yn yc yh yp yd yw ki eX eY eZ wi sT nT fR vL nX eN mE nM tR mT d) (nI (ws_n ki wi mT q)) (nI q) yn yc yh yp yd yw ki eX eY eZ wi sT nT fR vL nX eN mE nM tR mT := by
        intro n18
        unfold wY_support_79
        refine ⟨hin, ?_⟩
        rw [hc]
        rcases hm q hlt with z | z
        · refine br_t z ?_
          intro y hy
          have e2 := hy.trans (nI_1 q)
          subst e2
          refine next n18 _ ?_
          rw [wss, if_neg (fun w => by rw [z] at w; exact absurd w.1 (by decide)), Nat.add_zero]
        · refine br_f (by rw [z]; decide) ⟨hin, ?_⟩
          have h110 : (ki q = 0 ∨ ki q = 2) → wY_support_110 post (wY_support_46 post yn yc yh yp yd yw ki eX eY eZ wi sT nT fR vL nX eN mE nM tR mT d) (nI (ws_n ki wi mT q)) (nI q) yn yc yh yp yd yw ki eX eY eZ wi sT nT fR vL nX eN mE nM tR mT := by
            intro st
            unfold wY_support_110
            refine ⟨hin, ?_⟩
            rw [hc, wq.1, nI_add]
            intro x hx
            intro y hy
            have e2 := hy.trans (nI_1 q)
            subst e2
            refine next n18 _ ?_
            rw [hx, wss, if_pos ⟨z, st⟩]
          refine br_c (fun e => h110 (Or.inl e)) (fun n0 => ⟨hin, ?_⟩)
          refine br_c (fun e => h110 (Or.inr e)) (fun n2 => ?_)
          intro y hy
          have e2 := hy.trans (nI_1 q)
          subst e2
          refine next n18 _ ?_
          rw [wss, if_neg (fun w => by rcases w.2 with w | w; exact n0 w; exact n2 w), Nat.add_zero]
      refine ⟨hin, ?_⟩
      rw [hc]
      rcases hm q hlt with z | z
      · exact br_t z (h79 (fun w => by rw [z] at w; exact absurd w.1 (by decide)))
      · refine br_f (by rw [z]; decide) ⟨hin, ?_⟩
        refine br_c (fun e => K _ (Or.inl ⟨⟨q, hlt, z, e⟩, rfl⟩)) (fun e => h79 (fun w => e w.2))
end
section
variable {yn yc yh yp yd yw : Int32} {ki eX eY eZ wi sT nT fR vL nX eN mE nM tR : Nat → Int32}
theorem yc_7 {post : SY → Prop} {N s t : Nat} {su rd dp : Nat → Int32} (hN : N ≤ 24) (hs : s < N) (ht : t < N) (hd : ∀ a, a < N → df_s ki eX eY eZ wi a) (hl : ∀ a, a < N → lk_s ki eX eY eZ su rd dp a)
    (K : ∀ mT', mt_ok N su rd mT' s t → (∀ a, a < N → mT' a = 1 → mt_c ki eX eY eZ mT' a) → post (yn, yc, yh, yp, yd, yw, ki, eX, eY, eZ, wi, sT, nT, fR, vL, nX, eN, mE, nM, tR, mT')) :
    ∀ (d c : Nat) (x1 : Int32) (mT : Nat → Int32), c < d → c ≤ N → ((c = 0 ∧ x1 = -1) ∨ ∃ q, c = q + 1 ∧ x1 = nI q) → mt_ok N su rd mT s t → (∀ a, c ≤ a → a < N → mT a = 1 → mt_c ki eX eY eZ mT a) → wY_comeBack_7 post yn yc yh yp yd yw d x1 ki eX eY eZ wi sT nT fR vL nX eN mE nM tR mT := by
  intro d
  induction d with
  | zero => intro c x1 mT h1; omega
  | succ d ih =>
    intro c x1 mT h1 h2 hx hm hI
    unfold wY_comeBack_7
    rcases hx with ⟨c0, rfl⟩ | ⟨q, c0, rfl⟩
    · subst c0
      exact br_t (by decide) (K mT hm (fun a ha => hI a (by omega) ha))
    · subst c0
      have hin : vp_in (nI q) 24 := vp_in_nI (by omega) (by omega)
      have hc : (nI q).toNatClampNeg = q := nI_clamp (by omega)
      have dq := hd q (by omega)
      have lq := hl q (by omega)
      have nar1 : vp_nar .boolean (1 : Int32) = 1 := rfl
      -- one mark more
      have mark : ∀ (mT : Nat → Int32) (o : Nat), mt_ok N su rd mT s t → o < q → mt_j su rd s t o → (∀ a, q + 1 ≤ a → a < N → mT a = 1 → mt_c ki eX eY eZ mT a) → mt_ok N su rd (upd mT o 1) s t ∧ (∀ a, q + 1 ≤ a → a < N → upd mT o 1 a = 1 → mt_c ki eX eY eZ (upd mT o 1) a) ∧ ∀ b, mT b = 1 → upd mT o 1 b = 1 := by
        intro mT o g1 g2 g3 g4
        have keep : ∀ b, mT b = 1 → upd mT o 1 b = 1 := fun b hb => by
          by_cases e : b = o
          · rw [e, pk_us]
          · rw [pk_un e]; exact hb
        refine ⟨⟨fun m hm' => ?_, keep s g1.2.1, keep t g1.2.2.1, fun m hm' e => ?_⟩, fun a a1 a2 a3 => ?_, keep⟩
        · by_cases e : m = o
          · rw [e, pk_us]; exact Or.inr rfl
          · rw [pk_un e]; exact g1.1 m hm'
        · by_cases e' : m = o
          · rw [e']; exact g3
          · rw [pk_un e'] at e; exact g1.2.2.2 m hm' e
        · rw [pk_un (by omega)] at a3
          have c := g4 a a1 a2 a3
          exact ⟨fun z => keep _ (c.1 z), fun z z2 => keep _ (c.2.1 z z2), fun z => keep _ (c.2.2 z)⟩
      have next : ∀ mT : Nat → Int32, mt_ok N su rd mT s t → (∀ a, q + 1 ≤ a → a < N → mT a = 1 → mt_c ki eX eY eZ mT a) → (mT q = 1 → mt_c ki eX eY eZ mT q) → ∀ y, y = nI q + (-1) → wY_comeBack_7 post yn yc yh yp yd yw d y ki eX eY eZ wi sT nT fR vL nX eN mE nM tR mT := by
        intro mT g1 g2 g3 y hy
        refine ih q y mT (by omega) (by omega) ?_ g1 (fun a a1 a2 a3 => ?_)
        · by_cases e : q = 0
          · subst e
            exact Or.inl ⟨rfl, by rw [hy]; rfl⟩
          · obtain ⟨p, rfl⟩ : ∃ p, q = p + 1 := ⟨q - 1, by omega⟩
            exact Or.inr ⟨p, rfl, by rw [hy]; exact pk_m1 p⟩
        · by_cases e : a = q
          · rw [e] at a3 ⊢; exact g3 a3
          · exact g2 a (by omega) a2 a3
      have h69 : ∀ mT : Nat → Int32, mt_ok N su rd mT s t → (∀ a, q + 1 ≤ a → a < N → mT a = 1 → mt_c ki eX eY eZ mT a) → (mT q = 1 → (3 ≤ cl_n ki q → mT (cl_n eX q) = 1) ∧ (4 ≤ cl_n ki q → cl_n ki q ≤ 15 → mT (cl_n eY q) = 1)) → wY_comeBack_69 post (wY_comeBack_7 post yn yc yh yp yd yw d) (nI q) yn yc yh yp yd yw ki eX eY eZ wi sT nT fR vL nX eN mE nM tR mT := by
        intro mT g1 g2 g3
        unfold wY_comeBack_69
        refine ⟨hin, ?_⟩
        rw [hc]
        rcases g1.1 q (by omega) with z | z
        · exact br_t z (next mT g1 g2 (fun e => by rw [z] at e; exact absurd e (by decide)))
        · refine br_f (by rw [z]; decide) ⟨hin, ?_⟩
          refine pk_eq (cl_n ki q) 12 (fun e => ⟨hin, ?_⟩) (fun e => ?_) dq.1 rfl (by have := dq.2.1; omega) (by decide)
          · have oz := dq.2.2.2.2.2.2.2.1 e
            have jz := (mj_x lq (g1.2.2.2 q (by omega) z)).2.2 e
            rw [oz.1]
            refine ⟨vp_in_nI (by omega) (by omega), ?_⟩
            intro m' em
            rw [nI_clamp (by omega), nar1] at em
            obtain ⟨k1, k2, k3⟩ := mark mT _ g1 oz.2 jz g2
            subst em
            refine next _ k1 k2 (fun _ => ⟨fun w => k3 _ ((g3 z).1 w), fun w w2 => k3 _ ((g3 z).2 w w2), fun _ => pk_us⟩)
          · exact next mT g1 g2 (fun _ => ⟨(g3 z).1, (g3 z).2, fun w => absurd w e⟩)
      have h40 : ∀ mT : Nat → Int32, mt_ok N su rd mT s t → (∀ a, q + 1 ≤ a → a < N → mT a = 1 → mt_c ki eX eY eZ mT a) → (mT q = 1 → (3 ≤ cl_n ki q → mT (cl_n eX q) = 1)) → wY_comeBack_40 post (wY_comeBack_7 post yn yc yh yp yd yw d) (nI q) yn yc yh yp yd yw ki eX eY eZ wi sT nT fR vL nX eN mE nM tR mT := by
        intro mT g1 g2 g3
        unfold wY_comeBack_40
        refine ⟨hin, ?_⟩
        rw [hc]
        rcases g1.1 q (by omega) with z | z
        · exact br_t z (h69 mT g1 g2 (fun e => by rw [z] at e; exact absurd e (by decide)))
        · refine br_f (by rw [z]; decide) ?_
          refine yd_usesY (by omega) dq.1 dq.2.1 (fun w => br_t rfl ?_) (fun w1 w2 => br_f (by decide) ⟨hin, ?_⟩)
          · exact h69 mT g1 g2 (fun _ => ⟨g3 z, fun y1 y2 => absurd ⟨y1, y2⟩ w⟩)
          · have oy := dq.2.2.2.2.2.2.1 w1 w2
            have jy := (mj_x lq (g1.2.2.2 q (by omega) z)).2.1 w1 w2
            rw [oy.1]
            refine ⟨vp_in_nI (by omega) (by omega), ?_⟩
            intro m' em
            rw [nI_clamp (by omega), nar1] at em
            obtain ⟨k1, k2, k3⟩ := mark mT _ g1 oy.2 jy g2
            subst em
            exact h69 _ k1 k2 (fun _ => ⟨fun w => k3 _ (g3 z w), fun _ _ => pk_us⟩)
      refine br_f (nI_pos (by omega)) ⟨hin, ?_⟩
      rw [hc]
      rcases hm.1 q (by omega) with z | z
      · exact br_t z (h40 mT hm hI (fun e => by rw [z] at e; exact absurd e (by decide)))
      · refine br_f (by rw [z]; decide) ?_
        refine yd_usesX (by omega) dq.1 dq.2.1 (fun w => br_t rfl ?_) (fun w => br_f (by decide) ⟨hin, ?_⟩)
        · exact h40 mT hm hI (fun _ y => by omega)
        · have ox := dq.2.2.2.2.2.1 w
          have jx := (mj_x lq (hm.2.2.2 q (by omega) z)).1 w
          rw [ox.1]
          refine ⟨vp_in_nI (by omega) (by omega), ?_⟩
          intro m' em
          rw [nI_clamp (by omega), nar1] at em
          obtain ⟨k1, k2, k3⟩ := mark mT _ hm ox.2 jx hI
          subst em
          exact h40 _ k1 k2 (fun _ _ => pk_us)
theorem ys_2 {post : Int32 → SY → Prop} {N s t : Nat} {su rd dp : Nat → Int32} (hN : N ≤ 24) (hyn : yn = nI N) (hs : s < N) (ht : t < N) (hd : ∀ a, a < N → df_s ki eX eY eZ wi a) (hl : ∀ a, a < N → lk_s ki eX eY eZ su rd dp a)
    (K : ∀ mT' r, mt_ok N su rd mT' s t → (∀ a, a < N → mT' a = 1 → mt_c ki eX eY eZ mT' a) → sr_p N ki wi mT' r → post r (yn, yc, yh, yp, yd, yw, ki, eX, eY, eZ, wi, sT, nT, fR, vL, nX, eN, mE, nM, tR, mT')) :
    ∀ (d q : Nat) (mT : Nat → Int32), N < d + q → q ≤ N → (∀ m, m < q → (mT m = 0 ∨ mT m = 1) ∧ (mT m = 1 ↔ (m = s ∨ m = t))) → wY_support_2 post (nI s) (nI t) yn yc yh yp yd yw d (nI q) ki eX eY eZ wi sT nT fR vL nX eN mE nM tR mT := by
  intro d
  induction d with
  | zero => intro q mT h1 h2; omega
  | succ d ih =>
    intro q mT h1 h2 hI
    unfold wY_support_2
    refine pk_le N q (fun hle => ?_) (fun hlt => ?_) hyn
    · unfold wpY_comeBack
      intro x1 hx
      have ex : x1 = nI (N - 1) := by rw [hx, hyn]; exact pk_sub (b := 1) (by omega)
      refine ⟨N + 1, yc_7 (su := su) (rd := rd) (dp := dp) hN hs ht hd hl ?_ (N + 1) N x1 mT (by omega) (by omega) (Or.inr ⟨N - 1, by omega, ex⟩) ⟨fun m hm => (hI m (by omega)).1, (hI s (by omega)).2.mpr (Or.inl rfl), (hI t (by omega)).2.mpr (Or.inr rfl), fun m hm e => ?_⟩ (fun a a1 a2 => by omega)⟩
      · intro mT' g1 g2
        exact ⟨N + 1, ys_46 hN hyn (fun a ha => ⟨(hd a ha).2.2.1, (hd a ha).2.2.2.2.1⟩) g1.1 (fun r hr => K mT' r g1 g2 hr) (N + 1) 0 (by omega) (by omega) (Nat.zero_le _) (fun ⟨m, m1, _⟩ => by omega)⟩
      · rcases (hI m (by omega)).2.mp e with z | z
        · rw [z]; exact ⟨fun j hj e => by rw [e]; rfl, fun e => Or.inl e⟩
        · rw [z]; exact ⟨fun j hj e => by rw [e]; simp, fun e => Or.inr e⟩
    · have hin : vp_in (nI q) 24 := vp_in_nI (by omega) (by omega)
      have hc : (nI q).toNatClampNeg = q := nI_clamp (by omega)
      have put : ∀ x : Int32, (x = 0 ∨ x = 1) → (x = 1 ↔ (q = s ∨ q = t)) → wY_support_2 post (nI s) (nI t) yn yc yh yp yd yw d (nI (q + 1)) ki eX eY eZ wi sT nT fR vL nX eN mE nM tR (upd mT q x) := by
        intro x h0 hx
        refine ih (q + 1) _ (by omega) (by omega) (fun m hm => ?_)
        by_cases e : m = q
        · rw [e, pk_us]; exact ⟨h0, hx⟩
        · rw [pk_un e]; exact hI m (by omega)
      refine pk_eq q s (fun e => ⟨hin, ?_⟩) (fun n1 => pk_eq q t (fun e => ⟨hin, ?_⟩) (fun n2 => ⟨hin, ?_⟩))
      · intro m' em
        rw [hc, show vp_nar .boolean (1 : Int32) = 1 from rfl] at em
        intro y hy
        have e2 := hy.trans (nI_1 q)
        subst e2 em
        exact put 1 (Or.inr rfl) ⟨fun _ => Or.inl e, fun _ => rfl⟩
      · intro m' em
        rw [hc, show vp_nar .boolean (1 : Int32) = 1 from rfl] at em
        intro y hy
        have e2 := hy.trans (nI_1 q)
        subst e2 em
        exact put 1 (Or.inr rfl) ⟨fun _ => Or.inr e, fun _ => rfl⟩
      · intro m' em
        rw [hc, show vp_nar .boolean (0 : Int32) = 0 from rfl] at em
        intro y hy
        have e2 := hy.trans (nI_1 q)
        subst e2 em
        exact put 0 (Or.inl rfl) ⟨fun z => absurd z (by decide), fun z => by rcases z with z | z; exact absurd z n1; exact absurd z n2⟩
variable {mT : Nat → Int32}
theorem ys_sup {post : Int32 → SY → Prop} {N s t : Nat} {su rd dp : Nat → Int32} (hN : N ≤ 24) (hyn : yn = nI N) (hs : s < N) (ht : t < N) (hd : ∀ a, a < N → df_s ki eX eY eZ wi a) (hl : ∀ a, a < N → lk_s ki eX eY eZ su rd dp a)
    (K : ∀ mT' r, mt_ok N su rd mT' s t → (∀ a, a < N → mT' a = 1 → mt_c ki eX eY eZ mT' a) → sr_p N ki wi mT' r → post r (yn, yc, yh, yp, yd, yw, ki, eX, eY, eZ, wi, sT, nT, fR, vL, nX, eN, mE, nM, tR, mT')) : wpY_support post (yn, yc, yh, yp, yd, yw, ki, eX, eY, eZ, wi, sT, nT, fR, vL, nX, eN, mE, nM, tR, mT) (nI s) (nI t) := by
  unfold wpY_support
  exact ⟨N + 1, ys_2 hN hyn hs ht hd hl K (N + 1) 0 mT (by omega) (by omega) (fun m hm => by omega)⟩
end
end
section
/-! codes and counts, plain -/
def wm_n (u : Nat → Bool) (wd : Nat → Int32) : Nat → Nat
  | 0 => 0
  | q + 1 => wm_n u wd q + (if u q = true then cl_n wd q else 0)
theorem wm_m {u : Nat → Bool} {wd : Nat → Int32} : ∀ n m, m ≤ n → wm_n u wd m ≤ wm_n u wd n := by
  intro n
  induction n with
  | zero => intro m h; rw [Nat.le_zero.mp h]; exact Nat.le_refl _
  | succ n ih =>
    intro m h
    by_cases e : m = n + 1
    · rw [e]; exact Nat.le_refl _
    · exact Nat.le_trans (ih m (by omega)) (Nat.le_add_right _ _)
theorem wm_le {u : Nat → Bool} {wd : Nat → Int32} : ∀ {n : Nat}, (∀ t, t < n → cl_n wd t ≤ 6) → wm_n u wd n ≤ 6 * n := by
  intro n
  induction n with
  | zero => intro _; exact Nat.le_refl _
  | succ n ih =>
    intro h
    have i := ih (fun t ht => h t (by omega))
    have j := h n (by omega)
    show wm_n u wd n + (if u n = true then cl_n wd n else 0) ≤ _
    split <;> omega
theorem wm_ws {u : Nat → Bool} {wd ki mT : Nat → Int32} {N : Nat} (h : ∀ q, q < N → (u q = true ↔ (mT q = 1 ∧ (ki q = 0 ∨ ki q = 2)))) : ∀ n, n ≤ N → wm_n u wd n = ws_n ki wd mT n := by
  intro n
  induction n with
  | zero => intro _; rfl
  | succ n ih =>
    intro hn
    show wm_n u wd n + _ = ws_n ki wd mT n + _
    rw [ih (by omega)]
    by_cases e : u n = true
    · rw [if_pos e, if_pos ((h n (by omega)).mp e)]
    · rw [if_neg e, if_neg (fun z => e ((h n (by omega)).mpr z))]
def st_u (u : Nat → Bool) (wd : Nat → Int32) (code s : Nat) : Nat := if u s = true then code / 2 ^ wm_n u wd s % 2 ^ cl_n wd s else 0
def cb_b (u : Nat → Bool) (wd : Nat → Int32) (code b : Nat) : Bool := decide (b < 144) && (u (b / 6) && (decide (b % 6 < cl_n wd (b / 6)) && code.testBit (wm_n u wd (b / 6) + b % 6)))
theorem cb_st {u : Nat → Bool} {wd : Nat → Int32} {code s : Nat} (hs : s < 24) (hW : cl_n wd s ≤ 6) : sg_st (cb_b u wd code) wd s = st_u u wd code s := by
  unfold sg_st st_u
  by_cases e : u s = true
  · rw [if_pos e]
    refine nb_eq (Nat.mod_lt _ (Nat.two_pow_pos _)) (fun i hi => ?_)
    have e1 : (6 * s + i) / 6 = s := by omega
    have e2 : (6 * s + i) % 6 = i := by omega
    have e3 : 6 * s + i < 144 := by omega
    rw [Nat.testBit_mod_two_pow, Nat.testBit_div_two_pow]
    unfold cb_b
    rw [e1, e2, e]
    rw [decide_eq_true e3, decide_eq_true hi]
    simp only [Bool.true_and]
    first | rfl | rw [Nat.add_comm]
  · rw [if_neg e]
    refine nb_eq (Nat.two_pow_pos _) (fun i hi => ?_)
    have e1 : (6 * s + i) / 6 = s := by omega
    rw [Nat.zero_testBit]
    unfold cb_b
    rw [e1]
    simp [e]
theorem cb_me {u : Nat → Bool} {wd : Nat → Int32} {code p : Nat} : sg_me (cb_b u wd code) p = 0 := by
  unfold sg_me
  refine nb_eq (Nat.two_pow_pos _) (fun i hi => ?_)
  rw [Nat.zero_testBit]
  unfold cb_b
  have e : ¬ 144 + 4 * p + i < 144 := by omega
  rw [decide_eq_false e]
  rfl
theorem tb_64 {r j k : Nat} (hj : j < 64) : (64 * r + j).testBit k = if k < 6 then j.testBit k else r.testBit (k - 6) := Nat.testBit_two_pow_mul_add r (i := 6) hj k
theorem on_1 : ∀ K n, 0 < n → n < 2 ^ K → pc_n (fun i => (n &&& (n - 1)).testBit i) K + 1 = pc_n (fun i => n.testBit i) K := by
  intro K
  induction K with
  | zero => intro n h1 h2; have : (2 : Nat) ^ 0 = 1 := rfl; omega
  | succ K ih =>
    intro n h1 h2
    rw [Nat.add_comm K 1, pc_cat, pc_cat]
    have h0 : ∀ f : Nat → Bool, pc_n f 1 = (f 0).toNat := fun f => Nat.zero_add _
    rw [h0, h0]
    have hs : ∀ i, (n &&& (n - 1)).testBit (1 + i) = ((n / 2).testBit i && ((n - 1) / 2).testBit i) := fun i => by
      rw [Nat.add_comm 1 i, Nat.testBit_and, Nat.testBit_succ, Nat.testBit_succ]
    have hs2 : ∀ i, n.testBit (1 + i) = (n / 2).testBit i := fun i => by rw [Nat.add_comm 1 i, Nat.testBit_succ]
    have hz : ((n &&& (n - 1)).testBit 0) = false := by
      rw [Nat.testBit_and, Nat.testBit_zero, Nat.testBit_zero]
      rcases Nat.mod_two_eq_zero_or_one n with z | z
      · simp [z]
      · have z2 : (n - 1) % 2 = 0 := by omega
        simp [z2]
    rw [hz, pc_cg K (fun i _ => hs i), pc_cg K (g := fun i => (n / 2).testBit i) (fun i _ => hs2 i), Nat.testBit_zero]
    rcases Nat.mod_two_eq_zero_or_one n with z | z
    · have e : (n - 1) / 2 = n / 2 - 1 := by omega
      have q := ih (n / 2) (by omega) (by rw [Nat.pow_succ] at h2; omega)
      rw [pc_cg K (g := fun i => (n / 2 &&& (n / 2 - 1)).testBit i) (fun i _ => by rw [e, Nat.testBit_and])]
      have : (decide (n % 2 = 1)).toNat = 0 := by rw [z]; rfl
      rw [this]
      have : (false : Bool).toNat = 0 := rfl
      omega
    · have e : (n - 1) / 2 = n / 2 := by omega
      rw [pc_cg K (g := fun i => (n / 2).testBit i) (fun i _ => by rw [e, Bool.and_self])]
      have : (decide (n % 2 = 1)).toNat = 1 := by rw [z]; rfl
      rw [this]
      have : (false : Bool).toNat = 0 := rfl
      omega
abbrev pl_n (x : Int64) : Nat := pc_n (fun i => x.toBitVec.getLsbD i) 64
theorem on_x {x : Int64} (h : x ≠ 0) : pl_n (x &&& (x - 1)) + 1 = pl_n x := by
  have hn : 0 < x.toBitVec.toNat := by
    rcases Nat.eq_zero_or_pos x.toBitVec.toNat with z | z
    · exact absurd (Int64.toBitVec_inj.mp (BitVec.eq_of_toNat_eq z)) h
    · exact z
  have hl : x.toBitVec.toNat < 2 ^ 64 := x.toBitVec.isLt
  have e : (x &&& (x - 1)).toBitVec.toNat = x.toBitVec.toNat &&& (x.toBitVec.toNat - 1) := by
    show (x.toBitVec &&& (x.toBitVec - 1)).toNat = _
    rw [BitVec.toNat_and, BitVec.toNat_sub]
    have : (1 : BitVec 64).toNat = 1 := rfl
    rw [this]
    congr 1
    omega
  have q := on_1 64 _ hn hl
  rw [← e] at q
  exact q
theorem on_0 : pl_n 0 = 0 := by decide
theorem on_p {x : Int64} (h : x ≠ 0) : 0 < pl_n x := by have := on_x h; omega
theorem vm_lo : ∀ b, b < 6 → ∀ j, j < 64 → (((1 : Int64) <<< (((1 : Int32) <<< (nI b &&& 31)).toInt64 &&& 63)) - 1).toBitVec.getLsbD j = decide (j < 2 ^ b) := by decide
theorem vm_hi : ∀ j, j < 64 → (-1 : Int64).toBitVec.getLsbD j = true := by decide
theorem vm_0 : ∀ j, j < 64 → (0 : Int64).toBitVec.getLsbD j = false := by decide
theorem bt_s1 (x : Int32) {i : Nat} (hi : i < 32) : (x >>> (nI i &&& 31)) &&& 1 = 0 ↔ bt x i = false := by
  have h := bt_sh x hi
  constructor
  · intro z
    rw [z] at h
    cases e : bt x i
    · rfl
    · rw [e] at h; exact absurd h (by decide)
  · intro z
    rw [z] at h
    have q := pk_and (x >>> (nI i &&& 31)) (m := 1) 1 (by decide)
    rw [q] at h ⊢
    rcases Nat.mod_two_eq_zero_or_one (x >>> (nI i &&& 31)).toBitVec.toNat with w | w
    · rw [show (2 : Nat) ^ 1 = 2 from rfl, w]; rfl
    · rw [show (2 : Nat) ^ 1 = 2 from rfl, w] at h; exact absurd h (by decide)
/-- what is behind a signal lies in any closed set -/
theorem su_cl {kd ox oy oz wd su rd dp : Nat → Int32} {N : Nat} {P : Nat → Prop} (hd : ∀ a, a < N → df_s kd ox oy oz wd a) (hl : ∀ a, a < N → lk_s kd ox oy oz su rd dp a)
    (hP : ∀ a, a < N → P a → (3 ≤ cl_n kd a → P (cl_n ox a)) ∧ (4 ≤ cl_n kd a → cl_n kd a ≤ 15 → P (cl_n oy a)) ∧ (cl_n kd a = 12 → P (cl_n oz a))) :
    ∀ m a, a < m → a < N → P a → (∀ j, j < 32 → bt (su a) j = true → j < N ∧ P j ∧ (kd j = 0 ∨ kd j = 2)) ∧ (rd a = 1 → ∃ k, k < N ∧ P k ∧ cl_n kd k = 18) := by
  intro m
  induction m with
  | zero => intro a h; exact absurd h (Nat.not_lt_zero _)
  | succ m ih =>
    intro a h1 h2 h3
    have d := hd a h2
    have l := hl a h2
    have p := hP a h2 h3
    have ix : 3 ≤ cl_n kd a → _ := fun z => ih (cl_n ox a) (Nat.lt_of_lt_of_le (d.2.2.2.2.2.1 z).2 (Nat.le_of_lt_succ h1)) (Nat.lt_trans (d.2.2.2.2.2.1 z).2 h2) (p.1 z)
    have iy : 4 ≤ cl_n kd a → cl_n kd a ≤ 15 → _ := fun z z2 => ih (cl_n oy a) (Nat.lt_of_lt_of_le (d.2.2.2.2.2.2.1 z z2).2 (Nat.le_of_lt_succ h1)) (Nat.lt_trans (d.2.2.2.2.2.2.1 z z2).2 h2) (p.2.1 z z2)
    have iz : cl_n kd a = 12 → _ := fun z => ih (cl_n oz a) (Nat.lt_of_lt_of_le (d.2.2.2.2.2.2.2.1 z).2 (Nat.le_of_lt_succ h1)) (Nat.lt_trans (d.2.2.2.2.2.2.2.1 z).2 h2) (p.2.2 z)
    constructor
    · intro j hj e
      rw [l.1 j hj] at e
      rw [Bool.or_eq_true, Bool.or_eq_true, Bool.or_eq_true, Bool.and_eq_true, Bool.and_eq_true, Bool.and_eq_true, Bool.and_eq_true, decide_eq_true_iff, decide_eq_true_iff, decide_eq_true_iff, decide_eq_true_iff, decide_eq_true_iff] at e
      rcases e with ((⟨e1, e2⟩ | ⟨e1, e2⟩) | ⟨e1, e2⟩) | ⟨e1, e2⟩
      · rw [e2]; exact ⟨h2, h3, e1⟩
      · exact (ix e1).1 j hj e2
      · exact (iy e1.1 e1.2).1 j hj e2
      · exact (iz e1).1 j hj e2
    · intro e
      rcases l.2.2.1.mp e with e1 | ⟨e1, e2⟩ | ⟨e1, e2⟩ | ⟨e1, e2⟩
      · exact ⟨a, h2, h3, e1⟩
      · exact (ix e1).2 e2
      · exact (iy e1.1 e1.2).2 e2
      · exact (iz e1).2 e2
/-- on a closed set that reads no memory the values do not hang on the memory -/
theorem sl_um {N : Nat} {kd ox oy oz wd fo : Nat → Int32} {P : Nat → Prop} {st mem v st' mem' v' : Nat → Nat} (hd : ∀ s, s < N → df_s kd ox oy oz wd s)
    (hP : ∀ a, a < N → P a → (3 ≤ cl_n kd a → P (cl_n ox a)) ∧ (4 ≤ cl_n kd a → cl_n kd a ≤ 15 → P (cl_n oy a)) ∧ (cl_n kd a = 12 → P (cl_n oz a))) (h18 : ∀ a, a < N → P a → cl_n kd a ≠ 18)
    (hst : ∀ s, s < N → kd s = 0 ∨ kd s = 2 → st s = st' s) (h : sl_s N kd ox oy oz wd fo st mem v) (h' : sl_s N kd ox oy oz wd fo st' mem' v') : ∀ m s, s < m → s < N → P s → v s = v' s := by
  intro m
  induction m with
  | zero => intro s h; exact absurd h (Nat.not_lt_zero _)
  | succ m ih =>
    intro a h1 h2 h3
    have d := hd a h2
    have p := hP a h2 h3
    rw [h a h2, h' a h2]
    exact sp_cg d (hst a h2) (fun z => absurd z (h18 a h2 h3)) (fun z => ih (cl_n ox a) (Nat.lt_of_lt_of_le (d.2.2.2.2.2.1 z).2 (Nat.le_of_lt_succ h1)) (Nat.lt_trans (d.2.2.2.2.2.1 z).2 h2) (p.1 z))
      (fun z z2 => ih (cl_n oy a) (Nat.lt_of_lt_of_le (d.2.2.2.2.2.2.1 z z2).2 (Nat.le_of_lt_succ h1)) (Nat.lt_trans (d.2.2.2.2.2.2.1 z z2).2 h2) (p.2.1 z z2)) (fun z => ih (cl_n oz a) (Nat.lt_of_lt_of_le (d.2.2.2.2.2.2.2.1 z).2 (Nat.le_of_lt_succ h1)) (Nat.lt_trans (d.2.2.2.2.2.2.2.1 z).2 h2) (p.2.2 z))
/-- at a code the two differ -/
noncomputable def dc_b (N : Nat) (kd ox oy oz wd fo : Nat → Int32) (u : Nat → Bool) (s t : Nat) (z : Bool) (code : Nat) : Bool :=
  @decide (∃ v, sl_s N kd ox oy oz wd fo (st_u u wd code) (fun _ => 0) v ∧ v s ≠ (if z = true then v t else 0)) (Classical.propDecidable _)
theorem dc_e {N : Nat} {kd ox oy oz wd fo : Nat → Int32} {u : Nat → Bool} {s t : Nat} {z : Bool} {code : Nat} {v : Nat → Nat} (hd : ∀ s, s < N → df_s kd ox oy oz wd s) (hs : s < N) (ht : t < N) (h : sl_s N kd ox oy oz wd fo (st_u u wd code) (fun _ => 0) v) :
    dc_b N kd ox oy oz wd fo u s t z code = !decide (v s = (if z = true then v t else 0)) := by
  by_cases e : v s = (if z = true then v t else 0)
  · rw [decide_eq_true e]
    refine @decide_eq_false _ (Classical.propDecidable _) ?_
    rintro ⟨v', h', n⟩
    have q := sl_u hd (fun _ _ _ => rfl) (fun _ _ => rfl) h h'
    exact n (by rw [← q s hs, ← q t ht]; exact e)
  · rw [decide_eq_false e]
    exact @decide_eq_true _ (Classical.propDecidable _) ⟨v, h, e⟩
end
section
/-! X: the cases are laid, the gates worked, the differences counted -/
def ac_b (u : Nat → Bool) (wd : Nat → Int32) (q i b : Nat) : Prop := b < 144 ∧ (b / 6 < q ∨ (b / 6 = q ∧ b % 6 < i)) ∧ u (b / 6) = true ∧ b % 6 < cl_n wd (b / 6)
def ld_i (M : Nat) (so : Nat → Int32) (u : Nat → Bool) (wd : Nat → Int32) (r q i : Nat) (vA : Nat → Int64) : Prop :=
  (∀ n, n < M → (∀ b, b < 160 → ac_b u wd q i b → so b ≠ nI n) → vA n = 0) ∧ ∀ b, b < 160 → ac_b u wd q i b → ∀ j, j < 64 → (vA (so b).toNatClampNeg).toBitVec.getLsbD j = (64 * r + j).testBit (wm_n u wd (b / 6) + b % 6)
theorem ld_cg {M : Nat} {so : Nat → Int32} {u : Nat → Bool} {wd : Nat → Int32} {r q i q' i' : Nat} {vA : Nat → Int64} (e : ∀ b, b < 160 → (ac_b u wd q' i' b ↔ ac_b u wd q i b)) (h : ld_i M so u wd r q i vA) : ld_i M so u wd r q' i' vA :=
  ⟨fun n hn g => h.1 n hn (fun b hb a => g b hb ((e b hb).mpr a)), fun b hb a => h.2 b hb ((e b hb).mp a)⟩
theorem ac_n1 {u : Nat → Bool} {wd : Nat → Int32} {q W b : Nat} (hW : cl_n wd q = W) : ac_b u wd (q + 1) 0 b ↔ ac_b u wd q W b := by
  constructor
  · rintro ⟨a1, a2, a3, a4⟩
    refine ⟨a1, ?_, a3, a4⟩
    by_cases e : b / 6 = q
    · exact Or.inr ⟨e, by rw [e, hW] at a4; exact a4⟩
    · exact Or.inl (by omega)
  · rintro ⟨a1, a2, a3, a4⟩
    exact ⟨a1, Or.inl (by omega), a3, a4⟩
theorem ac_n0 {u : Nat → Bool} {wd : Nat → Int32} {q b : Nat} (hu : u q = false) : ac_b u wd (q + 1) 0 b ↔ ac_b u wd q 0 b := by
  constructor
  · rintro ⟨a1, a2, a3, a4⟩
    refine ⟨a1, ?_, a3, a4⟩
    by_cases e : b / 6 = q
    · rw [e, hu] at a3; exact absurd a3 (by decide)
    · exact Or.inl (by omega)
  · rintro ⟨a1, a2, a3, a4⟩
    exact ⟨a1, Or.inl (by omega), a3, a4⟩
theorem ld_st {M : Nat} {so : Nat → Int32} {u : Nat → Bool} {wd : Nat → Int32} {r q i n : Nat} {vA : Nat → Int64} {z : Int64} (hq : q < 24) (hi : i < 6) (hu : u q = true) (hW : i < cl_n wd q) (hn : so (6 * q + i) = nI n) (hn2 : n < 360)
    (hinj : ∀ b b', b < 160 → b' < 160 → so b ≠ -1 → so b = so b' → b = b') (hz : ∀ j, j < 64 → z.toBitVec.getLsbD j = (64 * r + j).testBit (wm_n u wd q + i)) (hso : ∀ b, b < 160 → so b = -1 ∨ ∃ n, so b = nI n ∧ n < 360) (hlv : ∀ b, b < 160 → ac_b u wd q i b → so b ≠ -1)
    (h : ld_i M so u wd r q i vA) : ld_i M so u wd r q (i + 1) (vp_updL vA n z) := by
  have e1 : (6 * q + i) / 6 = q := by omega
  have e2 : (6 * q + i) % 6 = i := by omega
  have a0 : ac_b u wd q (i + 1) (6 * q + i) := ⟨by omega, Or.inr ⟨e1, by omega⟩, by rw [e1]; exact hu, by rw [e1, e2]; exact hW⟩
  refine ⟨fun m hm g => ?_, fun b hb a j hj => ?_⟩
  · have ne : m ≠ n := fun e => g (6 * q + i) (by omega) a0 (by rw [e]; exact hn)
    rw [pk_uLn ne]
    refine h.1 m hm (fun b hb a => g b hb ⟨a.1, ?_, a.2.2⟩)
    rcases a.2.1 with w | w
    · exact Or.inl w
    · exact Or.inr ⟨w.1, by omega⟩
  · by_cases e : b = 6 * q + i
    · rw [e, hn, nI_clamp (by omega), pk_uLs, e1, e2]; exact hz j hj
    · have a' : ac_b u wd q i b := by
        refine ⟨a.1, ?_, a.2.2⟩
        rcases a.2.1 with w | w
        · exact Or.inl w
        · exact Or.inr ⟨w.1, by omega⟩
      have nn := hlv b hb a'
      rcases hso b hb with w | ⟨m, w1, w2⟩
      · exact absurd w nn
      · have ne : m ≠ n := fun e' => e (hinj b (6 * q + i) hb (by omega) nn (by rw [w1, hn, e']))
        rw [w1, nI_clamp (by omega), pk_uLn ne]
        have q := h.2 b hb a' j hj
        rw [w1, nI_clamp (by omega)] at q
        exact q
section
variable {sN sC sW pP pD pE tc lV bU pL wH sE : Int32} {kd ox oy oz wd fo su rd dp nx en hS wO nO nW eo so ne io td tf tb : Nat → Int32} {cH mK cA sK : Nat → Int64}
theorem dl_52 {post : SX → Prop} {J : Int32 → Int32 → (Nat → Int32) → (Nat → Int32) → (Nat → Int32) → (Nat → Int32) → (Nat → Int32) → (Nat → Int32) → (Nat → Int32) → (Nat → Int32) → (Nat → Int32) → (Nat → Int32) → (Nat → Int32) → (Nat → Int32) → (Nat → Int32) → (Nat → Int32) → (Nat → Int32) → (Nat → Int32) → (Nat → Int32) → (Nat → Int32) → (Nat → Int32) → (Nat → Int32) → (Nat → Int32) → (Nat → Int32) → (Nat → Int32) → (Nat → Int32) → (Nat → Int32) → (Nat → Int32) → (Nat → Int64) → (Nat → Int64) → (Nat → Int64) → (Nat → Int64) → (Nat → Int64) → Prop} {u : Nat → Bool} {x1 : Int32} {r q W S B : Nat} {c : ga_C} (h : ga_ok c S B) (hr : S + B ≤ 355) (hq : q < 24) (hW : wd q = nI W) (hW6 : W ≤ 6) (hu : u q = true) (hr31 : r < 2 ^ 30) (hso : so_ok c so) (hb : wm_n u wd q + W ≤ 8) (hca : ca_ok cA)
    (hlv : ∀ b, b < 160 → u (b / 6) = true → b % 6 < cl_n wd (b / 6) → b / 6 ≤ q → so b ≠ -1)
    (K : ∀ vA', ld_i (ga_M c) so u wd r (q + 1) 0 vA' → J (nI (wm_n u wd (q + 1))) (nI (q + 1)) kd ox oy oz wd fo su rd dp nx en hS wO nO nW c.2.1 c.2.2.1 c.2.2.2.1 c.2.2.2.2 eo so ne io td tf tb vA' cH mK cA sK) :
    ∀ (d i : Nat) (vA : Nat → Int64), W < d + i → i ≤ W → ld_i (ga_M c) so u wd r q i vA → wX_loadCases_52 post J x1 (nI r) (nI q) sN sC sW pP pD pE c.1 tc lV bU pL wH sE d (nI (wm_n u wd q + i)) (nI i) kd ox oy oz wd fo su rd dp nx en hS wO nO nW c.2.1 c.2.2.1 c.2.2.2.1 c.2.2.2.2 eo so ne io td tf tb vA cH mK cA sK := by
  have hW2 : cl_n wd q = W := by show (wd q).toNatClampNeg = W; rw [hW, nI_clamp (by omega)]
  have hM := h.2.2.1
  intro d
  induction d with
  | zero => intro i vA h1 h2; omega
  | succ d ih =>
    intro i vA h1 h2 hI
    unfold wX_loadCases_52
    have hc : (nI q).toNatClampNeg = q := nI_clamp (by omega)
    refine ⟨vp_in_nI (by omega) (by omega), ?_⟩
    rw [hc]
    refine pk_le W i (fun hle => ?_) (fun hlt => ?_) hW
    · have e : i = W := by omega
      subst e
      intro y hy
      have e2 := hy.trans (nI_1 q)
      subst e2
      have k := K vA (ld_cg (fun b _ => ac_n1 hW2) hI)
      have e3 : wm_n u wd (q + 1) = wm_n u wd q + i := by
        show wm_n u wd q + (if u q = true then cl_n wd q else 0) = _
        rw [if_pos hu, hW2]
      rw [e3] at k
      exact k
    · have put : ∀ z : Int64, (∀ j, j < 64 → z.toBitVec.getLsbD j = (64 * r + j).testBit (wm_n u wd q + i)) → wX_loadCases_97 post J (wX_loadCases_52 post J x1 (nI r) (nI q) sN sC sW pP pD pE c.1 tc lV bU pL wH sE d) x1 (nI r) (nI (wm_n u wd q + i)) (nI q) (nI i) z sN sC sW pP pD pE c.1 tc lV bU pL wH sE kd ox oy oz wd fo su rd dp nx en hS wO nO nW c.2.1 c.2.2.1 c.2.2.2.1 c.2.2.2.2 eo so ne io td tf tb vA cH mK cA sK := by
        intro z hz
        unfold wX_loadCases_97
        have e1 : (6 * nI q) + nI i = nI (6 * q + i) := by rw [show (6 : Int32) * nI q = nI (6 * q) from pk_mul 6 q, nI_add]
        rw [e1, nI_clamp (by omega)]
        refine ⟨vp_in_nI (by omega) (by omega), ?_⟩
        have e2 : (6 * q + i) / 6 = q := by omega
        have e3 : (6 * q + i) % 6 = i := by omega
        have nn := hlv (6 * q + i) (by omega) (by rw [e2]; exact hu) (by rw [e2, e3, hW2]; exact hlt) (by omega)
        rcases hso.1 (6 * q + i) (by omega) with w | ⟨n, w1, w2, w3, w4⟩
        · exact absurd w nn
        · rw [w1, nI_clamp (by omega)]
          refine ⟨vp_in_nI (by omega) (by omega), ?_⟩
          intro v' ev
          intro y1 hy1
          have e4 := hy1.trans (nI_1 _)
          intro y2 hy2
          have e5 := hy2.trans (nI_1 i)
          subst e4 e5 ev
          refine ih (i + 1) _ (by omega) (by omega) ?_
          refine ld_st hq (by omega) hu (by rw [hW2]; exact hlt) w1 (by omega) hso.2 hz (fun b hb => ?_) (fun b hb a => hlv b hb a.2.2.1 a.2.2.2 ?_) hI
          · rcases hso.1 b hb with y | ⟨m, y1, y2, y3, y4⟩
            · exact Or.inl y
            · exact Or.inr ⟨m, y1, by omega⟩
          · rcases a.2.1 with y | y
            · exact Nat.le_of_lt y
            · exact Nat.le_of_eq y.1
      refine pk_le 6 (wm_n u wd q + i) (fun h6 => ?_) (fun h6 => ⟨vp_in_nI h6 (by omega), ?_⟩)
      · rw [show nI (wm_n u wd q + i) - 6 = nI (wm_n u wd q + i - 6) from pk_sub (b := 6) h6, bx_sh (by omega) (by omega)]
        cases e : r.testBit (wm_n u wd q + i - 6)
        · refine br_t rfl (put 0 (fun j hj => ?_))
          rw [vm_0 j hj, tb_64 hj, if_neg (by omega), e]
        · refine br_f (by decide) (put (-1) (fun j hj => ?_))
          rw [vm_hi j hj, tb_64 hj, if_neg (by omega), e]
      · rw [nI_clamp (by omega)]
        refine put _ (fun j hj => ?_)
        rw [hca _ j h6 hj, tb_64 hj, if_pos h6]
theorem dl_28 {post : SX → Prop} {u : Nat → Bool} {x1 : Int32} {r N S B : Nat} {c : ga_C} (h : ga_ok c S B) (hr : S + B ≤ 355) (hN : N ≤ 24) (hsN : sN = nI N) (hw : ∀ t, t < N → wd t = nI (cl_n wd t) ∧ cl_n wd t ≤ 6) (hu : ∀ q, q < N → bt x1 q = u q) (hr31 : r < 2 ^ 30) (hso : so_ok c so) (hb : wm_n u wd N ≤ 8) (hca : ca_ok cA)
    (hlv : ∀ b, b < 144 → b / 6 < N → u (b / 6) = true → b % 6 < cl_n wd (b / 6) → so b ≠ -1)
    (K : ∀ vA', ld_i (ga_M c) so u wd r N 0 vA' → post (sN, sC, sW, pP, pD, pE, c.1, tc, lV, bU, pL, wH, sE, kd, ox, oy, oz, wd, fo, su, rd, dp, nx, en, hS, wO, nO, nW, c.2.1, c.2.2.1, c.2.2.2.1, c.2.2.2.2, eo, so, ne, io, td, tf, tb, vA', cH, mK, cA, sK)) :
    ∀ (d q : Nat) (vA : Nat → Int64), N < d + q → q ≤ N → ld_i (ga_M c) so u wd r q 0 vA → wX_loadCases_28 post x1 (nI r) sN sC sW pP pD pE c.1 tc lV bU pL wH sE d (nI (wm_n u wd q)) (nI q) kd ox oy oz wd fo su rd dp nx en hS wO nO nW c.2.1 c.2.2.1 c.2.2.2.1 c.2.2.2.2 eo so ne io td tf tb vA cH mK cA sK := by
  intro d
  induction d with
  | zero => intro q vA h1 h2; omega
  | succ d ih =>
    intro q vA h1 h2 hI
    unfold wX_loadCases_28
    refine pk_le N q (fun hle => ?_) (fun hlt => ?_) hsN
    · have e : q = N := by omega
      subst e
      exact K vA hI
    · cases e : u q
      · refine br_t ((bt_s1 x1 (by omega)).mpr (by rw [hu q hlt, e])) ?_
        intro y hy
        have e2 := hy.trans (nI_1 q)
        subst e2
        have k := ih (q + 1) vA (by omega) (by omega) (ld_cg (fun b _ => ac_n0 e) hI)
        have e3 : wm_n u wd (q + 1) = wm_n u wd q := by
          show wm_n u wd q + (if u q = true then cl_n wd q else 0) = _
          rw [if_neg (by rw [e]; decide), Nat.add_zero]
        rw [e3] at k
        exact k
      · refine br_f (fun z => by rw [bt_s1 x1 (by omega), hu q hlt, e] at z; exact absurd z (by decide)) ?_
        have e3 : wm_n u wd (q + 1) = wm_n u wd q + cl_n wd q := by
          show wm_n u wd q + (if u q = true then cl_n wd q else 0) = _
          rw [if_pos e]
        have e4 := wm_m (u := u) (wd := wd) N (q + 1) (by omega)
        have w := hw q hlt
        exact ⟨cl_n wd q + 1, dl_52 h hr (by omega) w.1 w.2 e hr31 hso (by omega) hca (fun b hb b1 b2 b3 => hlv b (by omega) (by omega) b1 b2) (fun vA' k => ih (q + 1) vA' (by omega) (by omega) k) (cl_n wd q + 1) 0 vA (by omega) (by omega) hI⟩
theorem dl_2 {post : SX → Prop} {u : Nat → Bool} {x1 : Int32} {r N S B : Nat} {c : ga_C} (h : ga_ok c S B) (hr : S + B ≤ 355) (hN : N ≤ 24) (hsN : sN = nI N) (hw : ∀ t, t < N → wd t = nI (cl_n wd t) ∧ cl_n wd t ≤ 6) (hu : ∀ q, q < N → bt x1 q = u q) (hr31 : r < 2 ^ 30) (hso : so_ok c so) (hb : wm_n u wd N ≤ 8) (hca : ca_ok cA)
    (hlv : ∀ b, b < 144 → b / 6 < N → u (b / 6) = true → b % 6 < cl_n wd (b / 6) → so b ≠ -1)
    (K : ∀ vA', ld_i (ga_M c) so u wd r N 0 vA' → post (sN, sC, sW, pP, pD, pE, c.1, tc, lV, bU, pL, wH, sE, kd, ox, oy, oz, wd, fo, su, rd, dp, nx, en, hS, wO, nO, nW, c.2.1, c.2.2.1, c.2.2.2.1, c.2.2.2.2, eo, so, ne, io, td, tf, tb, vA', cH, mK, cA, sK)) :
    ∀ (d i : Nat) (vA : Nat → Int64), ga_M c < d + i → i ≤ ga_M c → (∀ n, n < i → vA n = 0) → wX_loadCases_2 post x1 (nI r) sN sC sW pP pD pE c.1 tc lV bU pL wH sE d (nI i) kd ox oy oz wd fo su rd dp nx en hS wO nO nW c.2.1 c.2.2.1 c.2.2.2.1 c.2.2.2.2 eo so ne io td tf tb vA cH mK cA sK := by
  have hM := h.2.2.1
  intro d
  induction d with
  | zero => intro q vA h1 h2; omega
  | succ d ih =>
    intro i vA h1 h2 hI
    unfold wX_loadCases_2
    refine pk_le (ga_M c) i (fun hle => ?_) (fun hlt => ?_) h.1
    · exact ⟨N + 1, dl_28 h hr hN hsN hw hu hr31 hso hb hca hlv K (N + 1) 0 vA (by omega) (by omega) ⟨fun n hn _ => hI n (by omega), fun b hb a => absurd a.2.1 (by omega)⟩⟩
    · refine ⟨vp_in_nI (by omega) (by omega), ?_⟩
      intro s' es
      rw [nI_clamp (by omega)] at es
      intro y ey
      have e2 := ey.trans (nI_1 i)
      subst e2 es
      refine ih (i + 1) _ (by omega) (by omega) (fun j hj => ?_)
      by_cases q : j = i
      · rw [q, pk_uLs]
      · rw [pk_uLn q]; exact hI j (by omega)
variable {c : ga_C} {vA : Nat → Int64}
theorem dl_load {post : SX → Prop} {u : Nat → Bool} {x1 : Int32} {r N S B : Nat} (h : ga_ok c S B) (hr : S + B ≤ 355) (hN : N ≤ 24) (hsN : sN = nI N) (hw : ∀ t, t < N → wd t = nI (cl_n wd t) ∧ cl_n wd t ≤ 6) (hu : ∀ q, q < N → bt x1 q = u q) (hr31 : r < 2 ^ 30) (hso : so_ok c so) (hb : wm_n u wd N ≤ 8) (hca : ca_ok cA)
    (hlv : ∀ b, b < 144 → b / 6 < N → u (b / 6) = true → b % 6 < cl_n wd (b / 6) → so b ≠ -1)
    (K : ∀ vA', ld_i (ga_M c) so u wd r N 0 vA' → post (sN, sC, sW, pP, pD, pE, c.1, tc, lV, bU, pL, wH, sE, kd, ox, oy, oz, wd, fo, su, rd, dp, nx, en, hS, wO, nO, nW, c.2.1, c.2.2.1, c.2.2.2.1, c.2.2.2.2, eo, so, ne, io, td, tf, tb, vA', cH, mK, cA, sK)) : wpX_loadCases post (sN, sC, sW, pP, pD, pE, c.1, tc, lV, bU, pL, wH, sE, kd, ox, oy, oz, wd, fo, su, rd, dp, nx, en, hS, wO, nO, nW, c.2.1, c.2.2.1, c.2.2.2.1, c.2.2.2.2, eo, so, ne, io, td, tf, tb, vA, cH, mK, cA, sK) x1 (nI r) := by
  unfold wpX_loadCases
  exact ⟨ga_M c + 1, dl_2 h hr hN hsN hw hu hr31 hso hb hca hlv K (ga_M c + 1) 0 vA (by omega) (by omega) (fun n hn => absurd hn (by omega))⟩
theorem dl_ones5 {post : Int32 → Prop} {k : Nat} (K : post (nI k)) : ∀ (d a : Nat) (x : Int64), pl_n x < d → a + pl_n x = k → wX_onesIn_5 post sN sC sW pP pD pE c.1 tc lV bU pL wH sE kd ox oy oz wd fo su rd dp nx en hS wO nO nW c.2.1 c.2.2.1 c.2.2.2.1 c.2.2.2.2 eo so ne io td tf tb vA cH mK cA sK d (nI a) x := by
  intro d
  induction d with
  | zero => intro a x h1; omega
  | succ d ih =>
    intro a x h1 h2
    unfold wX_onesIn_5
    refine br_c (fun e => ?_) (fun e => ?_)
    · rw [e, on_0] at h2
      rw [show a = k from by omega]
      exact K
    · intro y hy
      have e1 := on_x e
      intro y2 hy2
      have e2 := hy2.trans (nI_1 a)
      subst e2 hy
      exact ih (a + 1) _ (by omega) (by omega)
theorem dl_ones {post : Int32 → Prop} {x : Int64} (K : post (nI (pl_n x))) : wpX_onesIn post (sN, sC, sW, pP, pD, pE, c.1, tc, lV, bU, pL, wH, sE, kd, ox, oy, oz, wd, fo, su, rd, dp, nx, en, hS, wO, nO, nW, c.2.1, c.2.2.1, c.2.2.2.1, c.2.2.2.2, eo, so, ne, io, td, tf, tb, vA, cH, mK, cA, sK) x := by
  unfold wpX_onesIn
  exact ⟨pl_n x + 1, dl_ones5 K (pl_n x + 1) 0 x (by omega) (by omega)⟩
theorem dl_wt4 {post : Int32 → Prop} {u : Nat → Bool} {x1 : Int32} {N : Nat} (hN : N ≤ 24) (hsN : sN = nI N) (hw : ∀ t, t < N → wd t = nI (cl_n wd t) ∧ cl_n wd t ≤ 6) (hu : ∀ q, q < N → bt x1 q = u q) (K : post (nI (wm_n u wd N))) :
    ∀ (d q : Nat), N < d + q → q ≤ N → wX_widthTogether_4 post x1 sN sC sW pP pD pE c.1 tc lV bU pL wH sE kd ox oy oz wd fo su rd dp nx en hS wO nO nW c.2.1 c.2.2.1 c.2.2.2.1 c.2.2.2.2 eo so ne io td tf tb vA cH mK cA sK d (nI (wm_n u wd q)) (nI q) := by
  intro d
  induction d with
  | zero => intro q h1 h2; omega
  | succ d ih =>
    intro q h1 h2
    unfold wX_widthTogether_4
    refine pk_le N q (fun hle => ?_) (fun hlt => ?_) hsN
    · have e : q = N := by omega
      subst e
      exact K
    · cases e : u q
      · refine br_t ((bt_s1 x1 (by omega)).mpr (by rw [hu q hlt, e])) ?_
        intro y hy
        have e2 := hy.trans (nI_1 q)
        subst e2
        have k := ih (q + 1) (by omega) (by omega)
        have e3 : wm_n u wd (q + 1) = wm_n u wd q := by
          show wm_n u wd q + (if u q = true then cl_n wd q else 0) = _
          rw [if_neg (by rw [e]; decide), Nat.add_zero]
        rw [e3] at k
        exact k
      · refine br_f (fun z => by rw [bt_s1 x1 (by omega), hu q hlt, e] at z; exact absurd z (by decide)) ⟨vp_in_nI (by omega) (by omega), ?_⟩
        have e3 : wm_n u wd (q + 1) = wm_n u wd q + cl_n wd q := by
          show wm_n u wd q + (if u q = true then cl_n wd q else 0) = _
          rw [if_pos e]
        intro y1 hy1
        rw [nI_clamp (by omega), (hw q hlt).1, nI_add, ← e3] at hy1
        intro y hy
        have e2 := hy.trans (nI_1 q)
        subst e2 hy1
        exact ih (q + 1) (by omega) (by omega)
theorem dl_wt {post : Int32 → Prop} {u : Nat → Bool} {x1 : Int32} {N : Nat} (hN : N ≤ 24) (hsN : sN = nI N) (hw : ∀ t, t < N → wd t = nI (cl_n wd t) ∧ cl_n wd t ≤ 6) (hu : ∀ q, q < N → bt x1 q = u q) (K : post (nI (wm_n u wd N))) : wpX_widthTogether post (sN, sC, sW, pP, pD, pE, c.1, tc, lV, bU, pL, wH, sE, kd, ox, oy, oz, wd, fo, su, rd, dp, nx, en, hS, wO, nO, nW, c.2.1, c.2.2.1, c.2.2.2.1, c.2.2.2.2, eo, so, ne, io, td, tf, tb, vA, cH, mK, cA, sK) x1 := by
  unfold wpX_widthTogether
  exact ⟨N + 1, dl_wt4 hN hsN hw hu K (N + 1) 0 (by omega) (by omega)⟩
end
end
section
/-! X: the differences are counted -/
def gg_i (c : ga_C) (i : Nat) (vA : Nat → Int64) : Prop := ∀ n, n < i → c.2.1 n ≠ -1 → ∀ j, j < 64 → (vA n).toBitVec.getLsbD j = (nb_lit (fun m => (vA m).toBitVec.getLsbD j) (c.2.1 n) && nb_lit (fun m => (vA m).toBitVec.getLsbD j) (c.2.2.1 n))
theorem lit_u {vA : Nat → Int64} {i a j : Nat} {x : Int64} (ha : a < 2 * i) (hi : i ≤ 360) : nb_lit (fun m => (vp_updL vA i x m).toBitVec.getLsbD j) (nI a) = nb_lit (fun m => (vA m).toBitVec.getLsbD j) (nI a) := by
  rw [nb_litN _ (by omega), nb_litN _ (by omega), pk_uLn (by omega)]
section
variable {sN sC sW pP pD pE tc lV bU pL wH sE : Int32} {kd ox oy oz wd fo su rd dp nx en hS wO nO nW eo so ne io td tf tb : Nat → Int32} {cH mK cA sK : Nat → Int64}
theorem dd_86 {post : Int32 → SX → Prop} {J : Int32 → Int32 → Int32 → Int32 → Int32 → Int32 → Int32 → Int32 → Int32 → Int32 → Int32 → Int32 → Int32 → Int32 → Int32 → (Nat → Int32) → (Nat → Int32) → (Nat → Int32) → (Nat → Int32) → (Nat → Int32) → (Nat → Int32) → (Nat → Int32) → (Nat → Int32) → (Nat → Int32) → (Nat → Int32) → (Nat → Int32) → (Nat → Int32) → (Nat → Int32) → (Nat → Int32) → (Nat → Int32) → (Nat → Int32) → (Nat → Int32) → (Nat → Int32) → (Nat → Int32) → (Nat → Int32) → (Nat → Int32) → (Nat → Int32) → (Nat → Int32) → (Nat → Int32) → (Nat → Int32) → (Nat → Int32) → (Nat → Int64) → (Nat → Int64) → (Nat → Int64) → (Nat → Int64) → (Nat → Int64) → Prop} {x1 x2 x3 x5 x8 x9 : Int32} {x6 : Int64} {S B : Nat} {c : ga_C} {vA0 : Nat → Int64} (h : ga_ok c S B) (hr : S + B ≤ 355)
    (K : ∀ vA', (∀ n, n < ga_M c → c.2.1 n = -1 → vA' n = vA0 n) → gg_i c (ga_M c) vA' → ∃ n, wX_differences_147 post J x1 x2 x3 x5 x6 x8 x9 sN sC sW pP pD pE c.1 tc lV bU pL wH sE kd ox oy oz wd fo su rd dp nx en hS wO nO nW c.2.1 c.2.2.1 c.2.2.2.1 c.2.2.2.2 eo so ne io td tf tb vA' cH mK cA sK n 0 0) :
    ∀ (d i : Nat) (vA : Nat → Int64), ga_M c < d + i → i ≤ ga_M c → (∀ n, n < ga_M c → c.2.1 n = -1 → vA n = vA0 n) → gg_i c i vA → wX_differences_86 post J x1 x2 x3 x5 x6 x8 x9 sN sC sW pP pD pE c.1 tc lV bU pL wH sE d (nI i) kd ox oy oz wd fo su rd dp nx en hS wO nO nW c.2.1 c.2.2.1 c.2.2.2.1 c.2.2.2.2 eo so ne io td tf tb vA cH mK cA sK := by
  have hM := h.2.2.1
  intro d
  induction d with
  | zero => intro i vA h1 h2; omega
  | succ d ih =>
    intro i vA h1 h2 hs hI
    unfold wX_differences_86
    refine pk_le (ga_M c) i (fun hle => ?_) (fun hlt => ?_) h.1
    · have e : i = ga_M c := by omega
      rw [e] at hI
      exact K vA hs hI
    · have hin : vp_in (nI i) 360 := vp_in_nI (by omega) (by omega)
      refine ⟨hin, ?_⟩
      rw [nI_clamp (by omega)]
      rcases h.2.2.2.2.2.1 i hlt with z | ⟨a, b, z1, z2, z3, z4⟩
      · refine br_t (by rw [z]; decide) ?_
        intro y ey
        have e2 := ey.trans (nI_1 i)
        subst e2
        refine ih (i + 1) vA (by omega) (by omega) hs (fun n hn g => ?_)
        by_cases q : n = i
        · rw [q] at g; exact absurd z g
        · exact hI n (by omega) g
      · have zn : c.2.1 i ≠ -1 := by rw [z1]; exact nr_ne (by omega)
        refine br_f (by rw [z1]; exact nI_pos (by omega)) ⟨hin, ?_⟩
        refine gf_case ⟨a, z1, by omega, by omega⟩ (fun r1 hr1 => ⟨hin, ?_⟩)
        refine gf_case ⟨b, z2, by omega, by omega⟩ (fun r2 hr2 => ⟨hin, ?_⟩)
        intro vA' ev
        intro y ey
        have e2 := ey.trans (nI_1 i)
        subst e2 ev
        refine ih (i + 1) _ (by omega) (by omega) (fun n hn g => ?_) (fun n hn g j hj => ?_)
        · have q : n ≠ i := fun q => by rw [q] at g; exact zn g
          rw [pk_uLn q]; exact hs n hn g
        · by_cases q : n = i
          · rw [q, pk_uLs, z1, z2, lit_u z3 (by omega), lit_u z4 (by omega), ← z1, ← z2, ← hr1 j hj, ← hr2 j hj]
            show (r1.toBitVec &&& r2.toBitVec).getLsbD j = _
            rw [BitVec.getLsbD_and]
          · rcases h.2.2.2.2.2.1 n (by omega) with w | ⟨a', b', w1, w2, w3, w4⟩
            · exact absurd w g
            · rw [pk_uLn q, w1, w2, lit_u (by omega) (by omega), lit_u (by omega) (by omega), ← w1, ← w2]
              exact hI n (by omega) g j hj
variable {c : ga_C} {vA : Nat → Int64}
theorem dd_147 {post : Int32 → SX → Prop} {J : Int32 → Int32 → Int32 → Int32 → Int32 → Int32 → Int32 → Int32 → Int32 → Int32 → Int32 → Int32 → Int32 → Int32 → Int32 → (Nat → Int32) → (Nat → Int32) → (Nat → Int32) → (Nat → Int32) → (Nat → Int32) → (Nat → Int32) → (Nat → Int32) → (Nat → Int32) → (Nat → Int32) → (Nat → Int32) → (Nat → Int32) → (Nat → Int32) → (Nat → Int32) → (Nat → Int32) → (Nat → Int32) → (Nat → Int32) → (Nat → Int32) → (Nat → Int32) → (Nat → Int32) → (Nat → Int32) → (Nat → Int32) → (Nat → Int32) → (Nat → Int32) → (Nat → Int32) → (Nat → Int32) → (Nat → Int32) → (Nat → Int64) → (Nat → Int64) → (Nat → Int64) → (Nat → Int64) → (Nat → Int64) → Prop} {x1 x3 x5 x8 x9 : Int32} {x6 : Int64} {s t W : Nat} {z : Bool} (hs : s < 24) (ht : t < 24) (hW : wd s = nI W) (hW6 : W ≤ 6) (hx3 : x3 = if z = true then nI t else -1) (hen : ∀ i, i < W → ga_en c (eo (6 * s + i))) (hent : z = true → ∀ i, i < W → ga_en c (eo (6 * t + i)))
    (K : ∀ x : Int64, (∀ j, j < 64 → (!x.toBitVec.getLsbD j) = decide (nb_n (fun i => nb_lit (fun n => (vA n).toBitVec.getLsbD j) (eo (6 * s + i))) W = nb_n (fun i => z && nb_lit (fun n => (vA n).toBitVec.getLsbD j) (eo (6 * t + i))) W)) → J (x8 + nI (pl_n (x &&& x6))) (x9 + 1) sN sC sW pP pD pE c.1 tc lV bU pL wH sE kd ox oy oz wd fo su rd dp nx en hS wO nO nW c.2.1 c.2.2.1 c.2.2.2.1 c.2.2.2.2 eo so ne io td tf tb vA cH mK cA sK) :
    ∀ (d i : Nat) (x : Int64), W < d + i → i ≤ W → (∀ j, j < 64 → (!x.toBitVec.getLsbD j) = decide (nb_n (fun i => nb_lit (fun n => (vA n).toBitVec.getLsbD j) (eo (6 * s + i))) i = nb_n (fun i => z && nb_lit (fun n => (vA n).toBitVec.getLsbD j) (eo (6 * t + i))) i)) → wX_differences_147 post J x1 (nI s) x3 x5 x6 x8 x9 sN sC sW pP pD pE c.1 tc lV bU pL wH sE kd ox oy oz wd fo su rd dp nx en hS wO nO nW c.2.1 c.2.2.1 c.2.2.2.1 c.2.2.2.2 eo so ne io td tf tb vA cH mK cA sK d x (nI i) := by
  intro d
  induction d with
  | zero => intro i x h1 h2; omega
  | succ d ih =>
    intro i x h1 h2 hI
    unfold wX_differences_147
    refine ⟨vp_in_nI (by omega) (by omega), ?_⟩
    rw [nI_clamp (by omega)]
    refine pk_le W i (fun hle => ?_) (fun hlt => ?_) hW
    · have e : i = W := by omega
      rw [e] at hI
      refine dl_ones ?_
      intro y1 hy1
      intro y2 hy2
      subst hy1 hy2
      exact K x hI
    · have e1 : (6 * nI s) + nI i = nI (6 * s + i) := by rw [show (6 : Int32) * nI s = nI (6 * s) from pk_mul 6 s, nI_add]
      have e1t : (6 * nI t) + nI i = nI (6 * t + i) := by rw [show (6 : Int32) * nI t = nI (6 * t) from pk_mul 6 t, nI_add]
      have put : ∀ z0 : Int64, (∀ j, j < 64 → z0.toBitVec.getLsbD j = (z && nb_lit (fun n => (vA n).toBitVec.getLsbD j) (eo (6 * t + i)))) → wX_differences_182 post J (wX_differences_147 post J x1 (nI s) x3 x5 x6 x8 x9 sN sC sW pP pD pE c.1 tc lV bU pL wH sE kd ox oy oz wd fo su rd dp nx en hS wO nO nW c.2.1 c.2.2.1 c.2.2.2.1 c.2.2.2.2 eo so ne io td tf tb vA cH mK cA sK d) x1 (nI s) x3 x5 x6 x8 x9 x (nI i) z0 sN sC sW pP pD pE c.1 tc lV bU pL wH sE kd ox oy oz wd fo su rd dp nx en hS wO nO nW c.2.1 c.2.2.1 c.2.2.2.1 c.2.2.2.2 eo so ne io td tf tb vA cH mK cA sK := by
        intro z0 hz0
        unfold wX_differences_182
        rw [e1, nI_clamp (by omega)]
        refine ⟨vp_in_nI (by omega) (by omega), ?_⟩
        refine gf_case (hen i hlt) (fun r hr => ?_)
        intro y1 hy1
        intro y2 hy2
        have e2 := hy2.trans (nI_1 i)
        subst e2 hy1
        refine ih (i + 1) _ (by omega) (by omega) (fun j hj => rp_same (hI j hj) ?_)
        show (!(x.toBitVec ||| (r.toBitVec ^^^ z0.toBitVec)).getLsbD j) = _
        rw [BitVec.getLsbD_or, BitVec.getLsbD_xor, hr j hj, hz0 j hj, Bool.not_or]
      cases hz : z
      · rw [hz, if_neg (by decide)] at hx3
        refine br_f (by rw [hx3]; decide) (put 0 (fun j hj => ?_))
        rw [vm_0 j hj, hz]; rfl
      · rw [hz, if_pos rfl] at hx3
        refine br_t (by rw [hx3]; exact nI_pos' (by omega)) ?_
        rw [hx3, e1t, nI_clamp (by omega)]
        refine ⟨vp_in_nI (by omega) (by omega), ?_⟩
        refine gf_case (hent hz i hlt) (fun r hr => ?_)
        rw [hx3] at put
        refine put r (fun j hj => ?_)
        rw [hr j hj, hz]; rfl
end
/-- every case is a solution -/
theorem dd_con {N r : Nat} {kd ox oy oz wd fo nx en eo so ne : Nat → Int32} {pP pD pE : Int32} {sK : Nat → Int64} {c : ga_C} {u : Nat → Bool} {vA0 vA : Nat → Int64} (hN : N ≤ 24) (hd : ∀ t, t < N → df_s kd ox oy oz wd t) (m : mg_ok N kd ox oy oz wd fo nx en pP pD pE sK (fun _ => false) c eo so ne) (hsK : ∀ b, b < 160 → st_b sK b = false)
    (h0 : ld_i (ga_M c) so u wd r N 0 vA0) (h1 : ∀ n, n < ga_M c → c.2.1 n = -1 → vA n = vA0 n) (h2 : gg_i c (ga_M c) vA) :
    ∀ j, j < 64 → sl_s N kd ox oy oz wd fo (st_u u wd (64 * r + j)) (fun _ => 0) (fun t => vw_n (fun n => (vA n).toBitVec.getLsbD j) eo t (cl_n wd t)) := by
  intro j hj
  obtain ⟨m1, ⟨m2, m3, m4, m5⟩, -⟩ := m
  have hM := m1.2.2.1
  have con : ga_con c (fun n => (vA n).toBitVec.getLsbD j) := by
    refine ⟨?_, fun n hn g => h2 n hn g j hj⟩
    show (vA 0).toBitVec.getLsbD j = false
    rw [h1 0 m1.2.1 m1.2.2.2.2.1, h0.1 0 m1.2.1 (fun b hb a => ?_)]
    · exact vm_0 j hj
    · rcases m2.1 b hb with w | ⟨n, w1, w2, w3, w4⟩
      · rw [w]; decide
      · rw [w1]; intro e; rw [nI_eq (by omega) (by omega)] at e; omega
  have sg : ∀ b, b < 160 → lv_b kd wd N b → sg_w (fun n => (vA n).toBitVec.getLsbD j) so (fun _ => false) b = cb_b u wd (64 * r + j) b := by
    intro b hb lv
    have nn : so b ≠ -1 := fun e => by
      have q := ((m3 b hb).1 lv).mp e
      rw [hsK b hb] at q
      exact absurd q (by decide)
    rcases m2.1 b hb with w | ⟨n, w1, w2, w3, w4⟩
    · exact absurd w nn
    · rw [sg_n w1 (by omega)]
      show (vA n).toBitVec.getLsbD j = _
      rw [h1 n w3 w4]
      by_cases a : ac_b u wd N 0 b
      · have q := h0.2 b hb a j hj
        rw [w1, nI_clamp (by omega)] at q
        rw [q]
        unfold cb_b
        rw [decide_eq_true a.1, a.2.2.1, decide_eq_true a.2.2.2]
        rfl
      · rw [h0.1 n w3 (fun b' hb' a' e => a (by rw [m2.2 b b' hb hb' nn (by rw [w1, e])]; exact a')), vm_0 j hj]
        cases q : cb_b u wd (64 * r + j) b
        · rfl
        · unfold cb_b at q
          rw [Bool.and_eq_true, Bool.and_eq_true, Bool.and_eq_true, decide_eq_true_iff, decide_eq_true_iff] at q
          refine absurd ⟨q.1, Or.inl ?_, q.2.1, q.2.2.1⟩ a
          rcases lv with w | w
          · omega
          · exact w.1
  obtain ⟨g1, g2⟩ := mg_st (fun t ht => (hd t ht).2.2.2.2.1) hN sg
  intro a ha
  rw [m5 _ con a ha]
  refine sp_cg (hd a ha) (fun k => ?_) (fun _ p hp => ?_) (fun _ => rfl) (fun _ _ => rfl) (fun _ => rfl)
  · rw [g1 a ha k, cb_st (by omega) (hd a ha).2.2.2.2.1]
  · rw [g2 p hp, cb_me]
section
variable {sN sC sW pP pD pE tc lV bU pL wH sE : Int32} {kd ox oy oz wd fo su rd dp nx en hS wO nO nW eo so ne io td tf tb : Nat → Int32} {cH mK cA sK : Nat → Int64}
theorem dd_69 {post : Int32 → SX → Prop} {u : Nat → Bool} {x1 x3 : Int32} {x6 : Int64} {N s t R T : Nat} {z : Bool} {c : ga_C} (hN : N ≤ 24) (hsN : sN = nI N) (hd : ∀ t, t < N → df_s kd ox oy oz wd t) (m : mg_ok N kd ox oy oz wd fo nx en pP pD pE sK (fun _ => false) c eo so ne) (hsK : ∀ b, b < 160 → st_b sK b = false)
    (hs : s < N) (ht : t < N) (hz : z = true → wd s = wd t) (hx3 : x3 = if z = true then nI t else -1) (hu : ∀ q, q < N → bt x1 q = u q) (hus : ∀ q, q < N → u q = true → kd q = 0 ∨ kd q = 2) (hb : wm_n u wd N ≤ 8) (hca : ca_ok cA) (hR : R ≤ 4)
    (hval : ∀ r, r < R → ∀ j, j < 64 → x6.toBitVec.getLsbD j = decide (64 * r + j < T))
    (K : ∀ vA', (∀ k, k < 64 * R → ∃ v, sl_s N kd ox oy oz wd fo (st_u u wd k) (fun _ => 0) v) → post (nI (pc_n (fun k => dc_b N kd ox oy oz wd fo u s t z k && decide (k < T)) (64 * R))) (sN, sC, sW, pP, pD, pE, c.1, tc, lV, bU, pL, wH, sE, kd, ox, oy, oz, wd, fo, su, rd, dp, nx, en, hS, wO, nO, nW, c.2.1, c.2.2.1, c.2.2.2.1, c.2.2.2.2, eo, so, ne, io, td, tf, tb, vA', cH, mK, cA, sK)) :
    ∀ (d r : Nat) (vA : Nat → Int64), R < d + r → r ≤ R → (∀ k, k < 64 * r → ∃ v, sl_s N kd ox oy oz wd fo (st_u u wd k) (fun _ => 0) v) → wX_differences_69 post x1 (nI s) x3 (nI R) x6 d (nI (pc_n (fun k => dc_b N kd ox oy oz wd fo u s t z k && decide (k < T)) (64 * r))) (nI r) sN sC sW pP pD pE c.1 tc lV bU pL wH sE kd ox oy oz wd fo su rd dp nx en hS wO nO nW c.2.1 c.2.2.1 c.2.2.2.1 c.2.2.2.2 eo so ne io td tf tb vA cH mK cA sK := by
  have m' := m
  obtain ⟨m1, ⟨m2, m3, m4, m5⟩, -⟩ := m'
  have hw : ∀ t, t < N → wd t = nI (cl_n wd t) ∧ cl_n wd t ≤ 6 := fun t ht => ⟨(hd t ht).2.2.1, (hd t ht).2.2.2.2.1⟩
  have hlv : ∀ b, b < 144 → b / 6 < N → u (b / 6) = true → b % 6 < cl_n wd (b / 6) → so b ≠ -1 := by
    intro b b1 b2 b3 b4 e
    have q := ((m3 b (by omega)).1 (Or.inr ⟨b2, b4, hus _ b2 b3⟩)).mp e
    rw [hsK b (by omega)] at q
    exact absurd q (by decide)
  intro d
  induction d with
  | zero => intro r vA h1 h2; omega
  | succ d ih =>
    intro r vA h1 h2 hI
    unfold wX_differences_69
    refine pk_le R r (fun hle => ?_) (fun hlt => ?_)
    · have e : r = R := by omega
      rw [e] at hI ⊢
      exact K vA hI
    · refine dl_load m1 (by omega) hN hsN hw hu (by omega) m2 hb hca hlv (fun vA1 h3 => ?_)
      refine ⟨ga_M c + 1, dd_86 (vA0 := vA1) m1 (by omega) (fun vA2 h4 h5 => ?_) (ga_M c + 1) 1 vA1 (by omega) m1.2.1 (fun _ _ _ => rfl) (fun n hn g => ?_)⟩
      · have sol := dd_con hN hd m hsK h3 h4 h5
        have ws := hw s hs
        refine ⟨cl_n wd s + 1, dd_147 (W := cl_n wd s) (t := t) (z := z) (by omega) (by omega) ws.1 ws.2 hx3 (fun i hi => m4 s hs i hi) (fun e i hi => m4 t ht i ((show cl_n wd s = cl_n wd t from congrArg Int32.toNatClampNeg (hz e)) ▸ hi)) (fun x hx => ?_) (cl_n wd s + 1) 0 0 (by omega) (by omega) (fun j hj => by rw [vm_0 j hj]; rfl)⟩
        have bits : ∀ j, j < 64 → (x &&& x6).toBitVec.getLsbD j = (dc_b N kd ox oy oz wd fo u s t z (64 * r + j) && decide (64 * r + j < T)) := by
          intro j hj
          show (x.toBitVec &&& x6.toBitVec).getLsbD j = _
          rw [BitVec.getLsbD_and, hval r hlt j hj, dc_e hd hs ht (sol j hj)]
          congr 1
          have q := hx j hj
          have q2 : nb_n (fun i => z && nb_lit (fun n => (vA2 n).toBitVec.getLsbD j) (eo (6 * t + i))) (cl_n wd s) = (if z = true then vw_n (fun n => (vA2 n).toBitVec.getLsbD j) eo t (cl_n wd t) else 0) := by
            cases e : z
            · rw [if_neg (by decide)]
              exact nb_eq (Nat.two_pow_pos _) (fun i hi => by rw [Nat.zero_testBit]; rfl)
            · rw [if_pos rfl]
              have e2 : cl_n wd s = cl_n wd t := congrArg Int32.toNatClampNeg (hz e)
              rw [e2]
              rfl
          rw [q2] at q
          have q3 : x.toBitVec.getLsbD j = !(!x.toBitVec.getLsbD j) := (Bool.not_not _).symm
          rw [q3, q]
          rfl
        rw [nI_add, nI_1]
        have cnt : pl_n (x &&& x6) = pc_n (fun j => dc_b N kd ox oy oz wd fo u s t z (64 * r + j) && decide (64 * r + j < T)) 64 := pc_cg 64 bits
        rw [cnt, ← pc_cat (fun k => dc_b N kd ox oy oz wd fo u s t z k && decide (k < T)) (64 * r) 64]
        refine ih (r + 1) vA2 (by omega) (by omega) (fun k hk => ?_)
        by_cases e : k < 64 * r
        · exact hI k e
        · have q := sol (k - 64 * r) (by omega)
          rw [show 64 * r + (k - 64 * r) = k from by omega] at q
          exact ⟨_, q⟩
      · rw [show n = 0 from by omega] at g
        exact absurd m1.2.2.2.2.1 g
end
section
variable {sN sC sW pP pD pE nc tc lV bU pL wH sE : Int32} {kd ox oy oz wd fo su rd dp nx en hS wO nO nW la lb nl fl eo so ne io td tf tb : Nat → Int32} {vA cH mK cA sK : Nat → Int64}
/-- differences -/
theorem dd_all {post : Int32 → SX → Prop} {u : Nat → Bool} {x1 x3 : Int32} {N s t : Nat} {z : Bool} (hN : N ≤ 24) (hsN : sN = nI N) (hd : ∀ t, t < N → df_s kd ox oy oz wd t) (hfo : fo_ok fo wd N) (hcn : cn_ok kd wd nx en N) (hpt : pt_ok wd pP pD pE N) (hv : sv_ok hS wO)
    (hh : hs_n kd wd N ≤ 60) (hb : gc_n kd ox wd N + nc_n kd wd N ≤ 220)
    (hs : s < N) (ht : t < N) (hz : z = true → wd s = wd t) (hx3 : x3 = if z = true then nI t else -1) (hu : ∀ q, q < N → bt x1 q = u q) (hus : ∀ q, q < N → u q = true → kd q = 0 ∨ kd q = 2) (h8 : wm_n u wd N ≤ 8) (hca : ca_ok cA)
    (K : ∀ (c : ga_C) eo' so' ne' vA' sK', (∀ k, k < 2 ^ wm_n u wd N → ∃ v, sl_s N kd ox oy oz wd fo (st_u u wd k) (fun _ => 0) v) → post (nI (pc_n (dc_b N kd ox oy oz wd fo u s t z) (2 ^ wm_n u wd N))) (sN, sC, sW, pP, pD, pE, c.1, tc, lV, bU, 1, wH, sE, kd, ox, oy, oz, wd, fo, su, rd, dp, nx, en, hS, wO, nO, nW, c.2.1, c.2.2.1, c.2.2.2.1, c.2.2.2.2, eo', so', ne', io, td, tf, tb, vA', cH, mK, cA, sK')) : wpX_differences post (sN, sC, sW, pP, pD, pE, nc, tc, lV, bU, pL, wH, sE, kd, ox, oy, oz, wd, fo, su, rd, dp, nx, en, hS, wO, nO, nW, la, lb, nl, fl, eo, so, ne, io, td, tf, tb, vA, cH, mK, cA, sK) x1 (nI s) x3 := by
  have hw : ∀ t, t < N → wd t = nI (cl_n wd t) ∧ cl_n wd t ≤ 6 := fun t ht => ⟨(hd t ht).2.2.1, (hd t ht).2.2.2.2.1⟩
  unfold wpX_differences
  refine gk_clr ?_
  intro sK0 h0
  refine gs_gates (fv := fun _ => false) hN hsN hd hfo hcn hpt hv (fun b hb z => by rw [h0 b (by omega)] at z; exact Bool.noConfusion z) hh hb ?_
  intro c eo' so' ne' m
  refine dl_wt hN hsN hw hu ?_
  have fin : ∀ (R : Nat) (x6 : Int64), R ≤ 4 → 2 ^ wm_n u wd N ≤ 64 * R → (∀ r, r < R → ∀ j, j < 64 → x6.toBitVec.getLsbD j = decide (64 * r + j < 2 ^ wm_n u wd N)) → wX_differences_69 post x1 (nI s) x3 (nI R) x6 (R + 1) 0 0 sN sC sW pP pD pE c.1 tc lV bU 1 wH sE kd ox oy oz wd fo su rd dp nx en hS wO nO nW c.2.1 c.2.2.1 c.2.2.2.1 c.2.2.2.2 eo' so' ne' io td tf tb vA cH mK cA sK0 := by
    intro R x6 hR hT hval
    refine dd_69 (T := 2 ^ wm_n u wd N) (t := t) (z := z) hN hsN hd m (fun b hb => h0 b (by omega)) hs ht hz hx3 hu hus h8 hca hR hval (fun vA' e => ?_) (R + 1) 0 vA (by omega) (by omega) (fun k hk => absurd hk (by omega))
    have k := K c eo' so' ne' vA' sK0 (fun k hk => e k (by omega))
    have cnt : pc_n (fun k => dc_b N kd ox oy oz wd fo u s t z k && decide (k < 2 ^ wm_n u wd N)) (64 * R) = pc_n (dc_b N kd ox oy oz wd fo u s t z) (2 ^ wm_n u wd N) := by
      rw [pc_ext _ (64 * R) hT (fun i i1 i2 => by rw [decide_eq_false (Nat.not_lt.mpr i1), Bool.and_false])]
      exact pc_cg _ (fun i hi => by rw [decide_eq_true hi, Bool.and_true])
    rw [cnt]
    exact k
  have lo : wm_n u wd N < 6 → wX_differences_38 post x1 (nI s) x3 (nI (wm_n u wd N)) 1 sN sC sW pP pD pE c.1 tc lV bU 1 wH sE kd ox oy oz wd fo su rd dp nx en hS wO nO nW c.2.1 c.2.2.1 c.2.2.2.1 c.2.2.2.2 eo' so' ne' io td tf tb vA cH mK cA sK0 := by
    intro l
    unfold wX_differences_38
    refine pk_lt (wm_n u wd N) 6 (fun _ => ?_) (fun w => absurd w (by omega))
    intro x6 hx6
    refine ⟨2, fin 1 x6 (by decide) ?_ (fun r hr j hj => ?_)⟩
    · exact Nat.le_of_lt (Nat.pow_lt_pow_right (by decide) l)
    · rw [hx6, show r = 0 from by omega, Nat.mul_zero, Nat.zero_add]
      exact vm_lo _ l j hj
  have hi : ∀ R : Nat, 6 ≤ wm_n u wd N → R ≤ 4 → 2 ^ wm_n u wd N = 64 * R → wX_differences_38 post x1 (nI s) x3 (nI (wm_n u wd N)) (nI R) sN sC sW pP pD pE c.1 tc lV bU 1 wH sE kd ox oy oz wd fo su rd dp nx en hS wO nO nW c.2.1 c.2.2.1 c.2.2.2.1 c.2.2.2.2 eo' so' ne' io td tf tb vA cH mK cA sK0 := by
    intro R l hR e
    unfold wX_differences_38
    refine pk_lt (wm_n u wd N) 6 (fun w => absurd w (by omega)) (fun _ => ?_)
    refine ⟨R + 1, fin R (-1) hR (by omega) (fun r hr j hj => ?_)⟩
    rw [vm_hi j hj, decide_eq_true (by omega)]
  refine pk_le (wm_n u wd N) 6 (fun l => ?_) (fun l => ?_)
  · by_cases e : wm_n u wd N = 6
    · exact hi 1 (by omega) (by decide) (by rw [e])
    · exact lo (by omega)
  · rw [show nI (wm_n u wd N) - 6 = nI (wm_n u wd N - 6) from pk_sub (b := 6) (by omega)]
    have q : wm_n u wd N = 7 ∨ wm_n u wd N = 8 := by omega
    rcases q with q | q
    · rw [q, show (1 : Int32) <<< (nI (7 - 6) &&& 31) = nI 2 from by decide, ← q]
      exact hi 2 (by omega) (by decide) (by rw [q])
    · rw [q, show (1 : Int32) <<< (nI (8 - 6) &&& 31) = nI 4 from by decide, ← q]
      exact hi 4 (by omega) (by decide) (by rw [q])
end
end
section
/-! the reference tries every code; the two verbs -/
theorem lim_b : ∀ b, b < 9 → (1 : Int32) <<< ((nI b &&& 15) &&& 31) = nI (2 ^ b) := by decide
theorem sh_w : ∀ W, W < 7 → ((nI W &&& 31).toBitVec.smod 32).toNat = W := by decide
theorem su_lt {u : Nat → Bool} {wd : Nat → Int32} {code s : Nat} : st_u u wd code s < 2 ^ cl_n wd s := by
  unfold st_u
  split
  · exact Nat.mod_lt _ (Nat.two_pow_pos _)
  · exact Nat.two_pow_pos _
theorem pc_one {f : Nat → Bool} {j n : Nat} (hj : j < n) (h : f j = true) : 0 < pc_n f n := by
  have q := pc_lt (f := fun _ => false) (g := f) (j := j) n (fun _ _ e => absurd e (by decide)) hj h rfl
  omega
theorem bt_o (x y : Int32) (j : Nat) : bt (x ||| y) j = (bt x j || bt y j) := by
  show (x.toBitVec ||| y.toBitVec).getLsbD j = _
  rw [BitVec.getLsbD_or]
  rfl
/-- the marks and X's sets meet -/
theorem sup_l {kd ox oy oz wd su rd dp mT : Nat → Int32} {N s t : Nat} (hN : N ≤ 24) (hs : s < N) (ht : t < N) (hd : ∀ a, a < N → df_s kd ox oy oz wd a) (hl : ∀ a, a < N → lk_s kd ox oy oz su rd dp a) (g1 : mt_ok N su rd mT s t) (g2 : ∀ a, a < N → mT a = 1 → mt_c kd ox oy oz mT a) :
    (∀ q, q < N → ((bt (su s) q || bt (su t) q) = true ↔ (mT q = 1 ∧ (kd q = 0 ∨ kd q = 2)))) ∧ ((∃ m, m < N ∧ mT m = 1 ∧ kd m = 18) ↔ (rd s = 1 ∨ rd t = 1)) := by
  have cl := su_cl (P := fun a => mT a = 1) hd hl g2
  have cs := cl (s + 1) s (Nat.lt_succ_self s) hs g1.2.1
  have ct := cl (t + 1) t (Nat.lt_succ_self t) ht g1.2.2.1
  refine ⟨fun q hq => ⟨fun e => ?_, fun ⟨e1, e2⟩ => ?_⟩, ⟨fun ⟨m, m1, m2, m3⟩ => ?_, fun e => ?_⟩⟩
  · rw [Bool.or_eq_true] at e
    rcases e with e | e
    · exact (cs.1 q (by omega) e).2
    · exact (ct.1 q (by omega) e).2
  · refine (g1.2.2.2 q hq e1).1 q (by omega) ?_
    rw [(hl q hq).1 q (by omega), decide_eq_true e2, decide_eq_true rfl]
    rfl
  · refine (g1.2.2.2 m m1 m2).2 ((hl m m1).2.2.1.mpr (Or.inl ?_))
    exact (df_k (hd m m1) (k := 18) (by decide)).mp m3
  · have fin : (∃ k, k < N ∧ mT k = 1 ∧ cl_n kd k = 18) → ∃ m, m < N ∧ mT m = 1 ∧ kd m = 18 := fun ⟨k, k1, k2, k3⟩ => ⟨k, k1, k2, (df_k (hd k k1) (k := 18) (by decide)).mpr k3⟩
    rcases e with e | e
    · exact fin (cs.2 e)
    · exact fin (ct.2 e)
section
variable {yn yc yh yp yd yw : Int32} {ki eX eY eZ wi sT nT fR nX eN mE nM mT : Nat → Int32}
theorem yg_4 {post : SY → Prop} {u : Nat → Bool} {N code : Nat} {mem : Nat → Nat} {vL : Nat → Int32} (hN : N ≤ 24) (hyn : yn = nI N) (hd : ∀ t, t < N → df_s ki eX eY eZ wi t) (hfo : fo_ok fR wi N) (hm : ∀ p, p < 4 → mE p = nI (mem p) ∧ mem p < 16) (hc : code < 2 ^ 20)
    (hmt : ∀ m, m < N → mT m = 0 ∨ mT m = 1) (hu : ∀ q, q < N → (u q = true ↔ (mT q = 1 ∧ (ki q = 0 ∨ ki q = 2))))
    (K : ∀ tR' vL', (∀ t, t < N → vL' t = nI (cl_n vL' t) ∧ cl_n vL' t < 2 ^ cl_n wi t) → sl_s N ki eX eY eZ wi fR (st_u u wi code) mem (cl_n vL') → post (yn, yc, yh, yp, yd, yw, ki, eX, eY, eZ, wi, sT, nT, fR, vL', nX, eN, mE, nM, tR', mT)) :
    ∀ (d q : Nat) (tR : Nat → Int32), N < d + q → q ≤ N → (∀ a, a < q → tR a = nI (st_u u wi code a)) → wY_give_4 post yn yc yh yp yd yw d (nI (code / 2 ^ wm_n u wi q)) (nI q) ki eX eY eZ wi sT nT fR vL nX eN mE nM tR mT := by
  intro d
  induction d with
  | zero => intro q tR h1 h2; omega
  | succ d ih =>
    intro q tR h1 h2 hI
    unfold wY_give_4
    refine pk_le N q (fun hle => ?_) (fun hlt => ?_) hyn
    · refine yw_work (st := st_u u wi code) hN hyn hd hfo (fun s hs _ => ⟨?_, su_lt⟩) hm (fun vL' k1 k2 => K tR vL' k1 k2)
      rw [if_neg (by decide)]
      exact hI s (by omega)
    · have hin : vp_in (nI q) 24 := vp_in_nI (by omega) (by omega)
      have hcq : (nI q).toNatClampNeg = q := nI_clamp (by omega)
      have wq := (hd q hlt).2.2.1
      have w6 := (hd q hlt).2.2.2.2.1
      have next : ∀ tR' : Nat → Int32, (∀ a, a < q → tR' a = tR a) → tR' q = nI (st_u u wi code q) → wY_give_4 post yn yc yh yp yd yw d (nI (code / 2 ^ wm_n u wi (q + 1))) (nI (q + 1)) ki eX eY eZ wi sT nT fR vL nX eN mE nM tR' mT := by
        intro tR' e1 e2
        refine ih (q + 1) tR' (by omega) (by omega) (fun a ha => ?_)
        by_cases e : a = q
        · rw [e]; exact e2
        · rw [e1 a (by omega)]; exact hI a (by omega)
      have non : u q = false → wY_give_4 post yn yc yh yp yd yw d (nI (code / 2 ^ wm_n u wi q)) (nI (q + 1)) ki eX eY eZ wi sT nT fR vL nX eN mE nM (upd tR q 0) mT := by
        intro e
        have k := next (upd tR q 0) (fun a ha => pk_un (by omega)) (by rw [pk_us]; unfold st_u; rw [if_neg (by rw [e]; decide)]; rfl)
        have e3 : wm_n u wi (q + 1) = wm_n u wi q := by
          show wm_n u wi q + (if u q = true then cl_n wi q else 0) = _
          rw [if_neg (by rw [e]; decide), Nat.add_zero]
        rw [e3] at k
        exact k
      have h47 : u q = true → wY_give_47 post (wY_give_4 post yn yc yh yp yd yw d) (nI (code / 2 ^ wm_n u wi q)) (nI q) yn yc yh yp yd yw ki eX eY eZ wi sT nT fR vL nX eN mE nM (upd tR q 0) mT := by
        intro e
        unfold wY_give_47
        rw [hcq]
        refine ⟨hin, hin, ?_⟩
        rw [wq, ym_and w6]
        intro t' et
        refine ⟨hin, ?_⟩
        have lt : code / 2 ^ wm_n u wi q < 2 ^ 31 := Nat.lt_of_le_of_lt (Nat.div_le_self _ _) (by omega)
        rw [pk_shrN lt _ (cl_n wi q) (sh_w _ (by omega)), rp_rr]
        intro y1 hy1
        intro y2 hy2
        have e2 := hy2.trans (nI_1 q)
        have e3 : wm_n u wi (q + 1) = wm_n u wi q + cl_n wi q := by
          show wm_n u wi q + (if u q = true then cl_n wi q else 0) = _
          rw [if_pos e]
        rw [← e3] at hy1
        subst e2 hy1 et
        refine next _ (fun a ha => by rw [pk_un (by omega), pk_un (by omega)]) ?_
        rw [pk_us]
        unfold st_u
        rw [if_pos e]
      refine ⟨hin, ?_⟩
      rw [hcq]
      intro t' et
      subst et
      refine ⟨hin, ?_⟩
      rcases hmt q hlt with z | z
      · refine br_t z ?_
        intro y hy
        have e2 := hy.trans (nI_1 q)
        subst e2
        refine non ?_
        cases e : u q
        · rfl
        · have := ((hu q hlt).mp e).1
          rw [z] at this
          exact absurd this (by decide)
      · refine br_f (by rw [z]; decide) ⟨hin, ?_⟩
        refine br_c (fun e => h47 ((hu q hlt).mpr ⟨z, Or.inl e⟩)) (fun n0 => ⟨hin, ?_⟩)
        refine br_c (fun e => h47 ((hu q hlt).mpr ⟨z, Or.inr e⟩)) (fun n2 => ?_)
        intro y hy
        have e2 := hy.trans (nI_1 q)
        subst e2
        refine non ?_
        cases e : u q
        · rfl
        · rcases ((hu q hlt).mp e).2 with w | w
          · exact absurd w n0
          · exact absurd w n2
theorem yg_give {post : SY → Prop} {u : Nat → Bool} {N code : Nat} {mem : Nat → Nat} {tR vL : Nat → Int32} (hN : N ≤ 24) (hyn : yn = nI N) (hd : ∀ t, t < N → df_s ki eX eY eZ wi t) (hfo : fo_ok fR wi N) (hm : ∀ p, p < 4 → mE p = nI (mem p) ∧ mem p < 16) (hc : code < 2 ^ 20)
    (hmt : ∀ m, m < N → mT m = 0 ∨ mT m = 1) (hu : ∀ q, q < N → (u q = true ↔ (mT q = 1 ∧ (ki q = 0 ∨ ki q = 2))))
    (K : ∀ tR' vL', (∀ t, t < N → vL' t = nI (cl_n vL' t) ∧ cl_n vL' t < 2 ^ cl_n wi t) → sl_s N ki eX eY eZ wi fR (st_u u wi code) mem (cl_n vL') → post (yn, yc, yh, yp, yd, yw, ki, eX, eY, eZ, wi, sT, nT, fR, vL', nX, eN, mE, nM, tR', mT)) : wpY_give post (yn, yc, yh, yp, yd, yw, ki, eX, eY, eZ, wi, sT, nT, fR, vL, nX, eN, mE, nM, tR, mT) (nI code) := by
  unfold wpY_give
  have k := yg_4 (vL := vL) hN hyn hd hfo hm hc hmt hu K (N + 1) 0 tR (by omega) (by omega) (fun a ha => absurd ha (by omega))
  rw [show code / 2 ^ wm_n u wi 0 = code from by show code / 1 = code; rw [Nat.div_one]] at k
  exact ⟨N + 1, k⟩
theorem ye_28 {post : Int32 → SY → Prop} {u : Nat → Bool} {N s t b : Nat} {mem : Nat → Nat} {F : Nat → Bool} (hN : N ≤ 24) (hyn : yn = nI N) (hd : ∀ t, t < N → df_s ki eX eY eZ wi t) (hfo : fo_ok fR wi N) (hm : ∀ p, p < 4 → mE p = nI (mem p) ∧ mem p < 16) (hs : s < N) (ht : t < N) (hb : b ≤ 8)
    (hmt : ∀ m, m < N → mT m = 0 ∨ mT m = 1) (hu : ∀ q, q < N → (u q = true ↔ (mT q = 1 ∧ (ki q = 0 ∨ ki q = 2))))
    (hF : ∀ k, k < 2 ^ b → ∀ v, sl_s N ki eX eY eZ wi fR (st_u u wi k) mem v → F k = !decide (v s = v t))
    (K1 : (∀ k, k < 2 ^ b → F k = false) → ∀ tR' vL', post 1 (yn, yc, yh, yp, yd, yw, ki, eX, eY, eZ, wi, sT, nT, fR, vL', nX, eN, mE, nM, tR', mT)) (K0 : (∃ k, k < 2 ^ b ∧ F k = true) → ∀ tR' vL', post 0 (yn, yc, yh, yp, yd, yw, ki, eX, eY, eZ, wi, sT, nT, fR, vL', nX, eN, mE, nM, tR', mT)) :
    ∀ (d k : Nat) (tR vL : Nat → Int32), 2 ^ b < d + k → k ≤ 2 ^ b → (∀ i, i < k → F i = false) → wY_equivalent_28 post (nI s) (nI t) (nI b) d (nI k) yn yc yh yp yd yw ki eX eY eZ wi sT nT fR vL nX eN mE nM tR mT := by
  have h8 : 2 ^ b ≤ 256 := Nat.pow_le_pow_right (n := 2) (by decide) hb
  intro d
  induction d with
  | zero => intro k tR vL h1 h2; omega
  | succ d ih =>
    intro k tR vL h1 h2 hI
    unfold wY_equivalent_28
    rw [lim_b b (by omega)]
    refine pk_le (2 ^ b) k (fun hle => K1 (fun i hi => hI i (by omega)) tR vL) (fun hlt => ?_)
    refine yg_give hN hyn hd hfo hm (by omega) hmt hu (fun tR' vL' k1 k2 => ⟨vp_in_nI (by omega) (by omega), vp_in_nI (by omega) (by omega), ?_⟩)
    have f := hF k hlt _ k2
    show (vL' (nI s).toNatClampNeg = vL' (nI t).toNatClampNeg → _) ∧ (¬ vL' (nI s).toNatClampNeg = vL' (nI t).toNatClampNeg → _)
    rw [nI_clamp (by omega), nI_clamp (by omega)]
    refine br_c (fun e => ?_) (fun e => K0 ⟨k, hlt, ?_⟩ tR' vL')
    · intro y hy
      have e2 := hy.trans (nI_1 k)
      subst e2
      refine ih (k + 1) tR' vL' (by omega) (by omega) (fun i hi => ?_)
      by_cases e3 : i = k
      · rw [e3, f, decide_eq_true (congrArg Int32.toNatClampNeg e)]; rfl
      · exact hI i (by omega)
    · rw [f, decide_eq_false (fun w => e (by rw [(k1 s hs).1, (k1 t ht).1, w]))]; rfl
theorem ye_29 {post : Int32 → SY → Prop} {u : Nat → Bool} {N s b : Nat} {mem : Nat → Nat} {F : Nat → Bool} (hN : N ≤ 24) (hyn : yn = nI N) (hd : ∀ t, t < N → df_s ki eX eY eZ wi t) (hfo : fo_ok fR wi N) (hm : ∀ p, p < 4 → mE p = nI (mem p) ∧ mem p < 16) (hs : s < N) (hb : b ≤ 8)
    (hmt : ∀ m, m < N → mT m = 0 ∨ mT m = 1) (hu : ∀ q, q < N → (u q = true ↔ (mT q = 1 ∧ (ki q = 0 ∨ ki q = 2))))
    (hF : ∀ k, k < 2 ^ b → ∀ v, sl_s N ki eX eY eZ wi fR (st_u u wi k) mem v → F k = !decide (v s = 0))
    (K : ∀ tR' vL', post (nI (pc_n F (2 ^ b))) (yn, yc, yh, yp, yd, yw, ki, eX, eY, eZ, wi, sT, nT, fR, vL', nX, eN, mE, nM, tR', mT)) :
    ∀ (d k : Nat) (tR vL : Nat → Int32), 2 ^ b < d + k → k ≤ 2 ^ b → wY_satisfied_29 post (nI s) (nI b) d (nI (pc_n F k)) (nI k) yn yc yh yp yd yw ki eX eY eZ wi sT nT fR vL nX eN mE nM tR mT := by
  have h8 : 2 ^ b ≤ 256 := Nat.pow_le_pow_right (n := 2) (by decide) hb
  intro d
  induction d with
  | zero => intro k tR vL h1 h2; omega
  | succ d ih =>
    intro k tR vL h1 h2
    unfold wY_satisfied_29
    rw [lim_b b (by omega)]
    refine pk_le (2 ^ b) k (fun hle => ?_) (fun hlt => ?_)
    · rw [show k = 2 ^ b from by omega]
      exact K tR vL
    refine yg_give hN hyn hd hfo hm (by omega) hmt hu (fun tR' vL' k1 k2 => ⟨vp_in_nI (by omega) (by omega), ?_⟩)
    have f := hF k hlt _ k2
    have n := ih (k + 1) tR' vL' (by omega) (by omega)
    have pcs : pc_n F (k + 1) = pc_n F k + (F k).toNat := rfl
    show (vL' (nI s).toNatClampNeg = 0 → _) ∧ (¬ vL' (nI s).toNatClampNeg = 0 → _)
    rw [nI_clamp (by omega)]
    refine br_c (fun e => ?_) (fun e => ?_)
    · intro y hy
      have e2 := hy.trans (nI_1 k)
      subst e2
      rw [pcs, f, decide_eq_true (show cl_n vL' s = 0 from by show (vL' s).toNatClampNeg = 0; rw [e]; rfl)] at n
      exact n
    · intro y1 hy1
      have e1 := hy1.trans (nI_1 _)
      intro y hy
      have e2 := hy.trans (nI_1 k)
      subst e2 e1
      rw [pcs, f, decide_eq_false (fun w => e (by rw [(k1 s hs).1, w]; rfl))] at n
      exact n
end
end
section
/-! equivalent and satisfied -/
theorem hf_all {N s t b : Nat} {kd ox oy oz wd fo su rd mT : Nat → Int32} {u : Nat → Bool} {mem : Nat → Nat} {z : Bool} (hs : s < N) (ht : t < N) (hd : ∀ a, a < N → df_s kd ox oy oz wd a) (g1 : mt_ok N su rd mT s t) (g2 : ∀ a, a < N → mT a = 1 → mt_c kd ox oy oz mT a) (h18 : ¬ ∃ m, m < N ∧ mT m = 1 ∧ kd m = 18)
    (he : ∀ k, k < 2 ^ b → ∃ v, sl_s N kd ox oy oz wd fo (st_u u wd k) (fun _ => 0) v) : ∀ k, k < 2 ^ b → ∀ v, sl_s N kd ox oy oz wd fo (st_u u wd k) mem v → dc_b N kd ox oy oz wd fo u s t z k = !decide (v s = (if z = true then v t else 0)) := by
  intro k hk v hv
  obtain ⟨v0, h0⟩ := he k hk
  have um := sl_um (P := fun a => mT a = 1) hd g2 (fun a ha e e2 => h18 ⟨a, ha, e, (df_k (hd a ha) (k := 18) (by decide)).mpr e2⟩) (fun _ _ _ => rfl) hv h0
  rw [dc_e hd hs ht h0, um (s + 1) s (Nat.lt_succ_self s) hs g1.2.1, um (t + 1) t (Nat.lt_succ_self t) ht g1.2.2.1]
theorem i_vc_equivalent {k : Nat} {u : SX} {v : SY} (I : i_Rel k u v) (hk : k + 5 ≤ 2560) (v1 : Int32) (v2 : Int32) : wpX_equivalent (fun r u' => wpY_equivalent (fun r' v' => r' = r ∧ i_Rel (k + 5) u' v') v v1 v2) u v1 v2 := by
  refine zz_el (P := fun u v => wpX_equivalent (fun r u' => wpY_equivalent (fun r' v' => r' = r ∧ i_Rel (k + 5) u' v') v v1 v2) u v1 v2) ?_ I
  intro N sN sC sW pP pD pE nc tc lV bU pL wH sE yd yw kd ox oy oz wd fo su rd dp nx en hS wO nO nW la lb nl fl eo so ne io td tf tb vL tR mT vA cH mK cA sK h
  have h' := h
  obtain ⟨⟨a1, a2, a3, a4, a5, a6, a7, a8, a9, a10, a11⟩, h2, h3, h4, h5, h6⟩ := h'
  unfold wpX_equivalent
  have none : (¬ ∃ i j, i < N ∧ j < N ∧ v1 = nI i ∧ v2 = nI j ∧ wd i = wd j) → wpY_equivalent (fun r' v' => r' = -1 ∧ i_Rel (k + 5) (sN, sC, sW, pP, pD, pE, nc, tc, lV, bU, pL, wH, sE, kd, ox, oy, oz, wd, fo, su, rd, dp, nx, en, hS, wO, nO, nW, la, lb, nl, fl, eo, so, ne, io, td, tf, tb, vA, cH, mK, cA, sK) v') (sN, sC, sW, pP, yd, yw, kd, ox, oy, oz, wd, hS, nO, fo, vL, nx, en, wO, nW, tR, mT) v1 v2 := by
    intro hn
    unfold wpY_equivalent
    exact sy_alike0 a2 a1 hn (br_t rfl ⟨rfl, zz_mk h⟩)
  by_cases hr : ∃ j, j < N ∧ v1 = nI j
  · obtain ⟨s, s1, rfl⟩ := hr
    by_cases hr2 : ∃ j, j < N ∧ v2 = nI j
    · obtain ⟨t, t1, rfl⟩ := hr2
      have cs : (nI s).toNatClampNeg = s := nI_clamp (by omega)
      have ct : (nI t).toNatClampNeg = t := nI_clamp (by omega)
      have is : vp_in (nI s) 24 := vp_in_nI (by omega) (by omega)
      have it : vp_in (nI t) 24 := vp_in_nI (by omega) (by omega)
      refine sx_sig1 a2 a1 s1 (br_f (by decide) (sx_sig1 a2 a1 t1 (br_f (by decide) ⟨is, it, ?_⟩)))
      rw [cs, ct]
      refine br_c (fun hw => ⟨is, it, ?_⟩) (fun hw => none ?_)
      · -- Y's support, whatever comes of it
        have ysup : ∀ post : Int32 → SY → Prop, (∀ mT' r, mt_ok N su rd mT' s t → (∀ a, a < N → mT' a = 1 → mt_c kd ox oy oz mT' a) → sr_p N kd wd mT' r → (0 ≤ r → ∃ n, wY_equivalent_28 post (nI s) (nI t) r n 0 sN sC sW pP yd yw kd ox oy oz wd hS nO fo vL nx en wO nW tR mT') ∧ (¬ 0 ≤ r → post (-3) (sN, sC, sW, pP, yd, yw, kd, ox, oy, oz, wd, hS, nO, fo, vL, nx, en, wO, nW, tR, mT'))) → wpY_equivalent post (sN, sC, sW, pP, yd, yw, kd, ox, oy, oz, wd, hS, nO, fo, vL, nx, en, wO, nW, tR, mT) (nI s) (nI t) := by
          intro post K
          unfold wpY_equivalent
          exact sy_alike1 a2 a1 s1 t1 hw (br_f (by decide) (ys_sup a2 a1 s1 t1 a3 a11 (fun mT' r q1 q2 q3 => K mT' r q1 q2 q3)))
        have m3 : (∀ mT' r, mt_ok N su rd mT' s t → (∀ a, a < N → mT' a = 1 → mt_c kd ox oy oz mT' a) → sr_p N kd wd mT' r → r = -1) → wpY_equivalent (fun r' v' => r' = -3 ∧ i_Rel (k + 5) (sN, sC, sW, pP, pD, pE, nc, tc, lV, bU, pL, wH, sE, kd, ox, oy, oz, wd, fo, su, rd, dp, nx, en, hS, wO, nO, nW, la, lb, nl, fl, eo, so, ne, io, td, tf, tb, vA, cH, mK, cA, sK) v') (sN, sC, sW, pP, yd, yw, kd, ox, oy, oz, wd, hS, nO, fo, vL, nx, en, wO, nW, tR, mT) (nI s) (nI t) := by
          intro g
          refine ysup _ (fun mT' r q1 q2 q3 => ?_)
          rw [g mT' r q1 q2 q3]
          exact br_f (by decide) ⟨rfl, zz_mk h⟩
        intro x3 hx3
        have uu : ∀ q, q < N → bt x3 q = (fun q => bt (su s) q || bt (su t) q) q := fun q _ => by rw [hx3]; exact bt_o _ _ q
        refine ⟨is, ?_⟩
        have ls := (a11 s s1).2.1
        have lt := (a11 t t1).2.1
        have rdx : (rd s = 1 ∨ rd t = 1) → wpY_equivalent (fun r' v' => r' = -3 ∧ i_Rel (k + 5) (sN, sC, sW, pP, pD, pE, nc, tc, lV, bU, pL, wH, sE, kd, ox, oy, oz, wd, fo, su, rd, dp, nx, en, hS, wO, nO, nW, la, lb, nl, fl, eo, so, ne, io, td, tf, tb, vA, cH, mK, cA, sK) v') (sN, sC, sW, pP, yd, yw, kd, ox, oy, oz, wd, hS, nO, fo, vL, nx, en, wO, nW, tR, mT) (nI s) (nI t) := by
          intro e
          refine m3 (fun mT' r q1 q2 q3 => ?_)
          have sl := sup_l a2 s1 t1 a3 a11 q1 q2
          rcases q3 with q3 | q3
          · exact q3.2
          · exact absurd (sl.2.mpr e) q3.1
        refine br_c (fun r0 => ⟨it, br_c (fun r1 => ?_) (fun r1 => ?_)⟩) (fun r0 => ?_)
        · have n18 : ¬ (rd s = 1 ∨ rd t = 1) := by
            rintro (e | e)
            · rw [r0] at e; exact absurd e (by decide)
            · rw [r1] at e; exact absurd e (by decide)
          have hw6 : ∀ t, t < N → wd t = nI (cl_n wd t) ∧ cl_n wd t ≤ 6 := fun t ht => ⟨(a3 t ht).2.2.1, (a3 t ht).2.2.2.2.1⟩
          have wb := wm_m (u := fun q => bt (su s) q || bt (su t) q) (wd := wd) N 0 (by omega)
          have wle : wm_n (fun q => bt (su s) q || bt (su t) q) wd N ≤ 6 * N := wm_le (fun t ht => (hw6 t ht).2)
          refine dl_wt (c := (nc, la, lb, nl, fl)) a2 a1 hw6 uu ?_
          refine pk_le (wm_n (fun q => bt (su s) q || bt (su t) q) wd N) 8 (fun l8 => ?_) (fun l8 => ?_)
          · refine dd_all (u := fun q => bt (su s) q || bt (su t) q) (z := true) a2 a1 a3 a4 a5 a6 (st_sv h2) a10 a8 s1 t1 (fun _ => hw) (if_pos rfl).symm uu (fun q hq e => ?_) l8 h4.2.2.2.2 (fun c eo' so' ne' vA' sK' he => ?_)
            · have cl := su_cl (P := fun _ => True) a3 a11 (fun _ _ _ => ⟨fun _ => trivial, fun _ _ => trivial, fun _ => trivial⟩)
              have e' : (bt (su s) q || bt (su t) q) = true := e
              rw [Bool.or_eq_true] at e'
              rcases e' with e' | e'
              · exact ((cl (s + 1) s (Nat.lt_succ_self s) s1 trivial).1 q (by omega) e').2.2
              · exact ((cl (t + 1) t (Nat.lt_succ_self t) t1 trivial).1 q (by omega) e').2.2
            · have p256 : 2 ^ wm_n (fun q => bt (su s) q || bt (su t) q) wd N ≤ 256 := Nat.pow_le_pow_right (n := 2) (by decide) l8
              have ple := pc_le (dc_b N kd ox oy oz wd fo (fun q => bt (su s) q || bt (su t) q) s t true) (2 ^ wm_n (fun q => bt (su s) q || bt (su t) q) wd N)
              have hR : rl_ok N sN sC sW pP pD pE c.1 tc lV bU 1 wH sE kd ox oy oz wd fo su rd dp nx en hS wO nO nW c.2.1 c.2.2.1 c.2.2.2.1 c.2.2.2.2 eo' so' ne' io tf tb vA' cA sK' yd yw := ⟨⟨a1, a2, a3, a4, a5, a6, a7, a8, a9, a10, a11⟩, h2, h3, ⟨h4.1, h4.2.1, Or.inr rfl, h4.2.2.2.1, h4.2.2.2.2⟩, fun _ e => absurd e (by decide), h6⟩
              have yy : ∀ post : Int32 → SY → Prop, ((∀ k, k < 2 ^ wm_n (fun q => bt (su s) q || bt (su t) q) wd N → dc_b N kd ox oy oz wd fo (fun q => bt (su s) q || bt (su t) q) s t true k = false) → ∀ mT' tR' vL', post 1 (sN, sC, sW, pP, yd, yw, kd, ox, oy, oz, wd, hS, nO, fo, vL', nx, en, wO, nW, tR', mT')) → ((∃ k, k < 2 ^ wm_n (fun q => bt (su s) q || bt (su t) q) wd N ∧ dc_b N kd ox oy oz wd fo (fun q => bt (su s) q || bt (su t) q) s t true k = true) → ∀ mT' tR' vL', post 0 (sN, sC, sW, pP, yd, yw, kd, ox, oy, oz, wd, hS, nO, fo, vL', nx, en, wO, nW, tR', mT')) → wpY_equivalent post (sN, sC, sW, pP, yd, yw, kd, ox, oy, oz, wd, hS, nO, fo, vL, nx, en, wO, nW, tR, mT) (nI s) (nI t) := by
                intro post K1 K0
                refine ysup _ (fun mT' r q1 q2 q3 => ?_)
                have sl := sup_l a2 s1 t1 a3 a11 q1 q2
                have nn : ¬ ∃ m, m < N ∧ mT' m = 1 ∧ kd m = 18 := fun e => n18 (sl.2.mp e)
                have ww := wm_ws (wd := wd) sl.1 N (Nat.le_refl N)
                rcases q3 with q3 | ⟨-, q3⟩
                · exact absurd q3.1 nn
                · rcases q3 with ⟨q4, q5⟩ | ⟨q4, q5⟩
                  · rw [q5, ← ww]
                    refine br_t (nI_pos' (by omega)) ?_
                    exact ⟨_, ye_28 (mem := cl_n wO) a2 a1 a3 a4 (fun p hp => h2.2 p hp) s1 t1 l8 q1.1 sl.1 (fun k hk v hv => (hf_all (z := true) s1 t1 a3 q1 q2 nn he k hk v hv)) (fun g tR' vL' => K1 g mT' tR' vL') (fun g tR' vL' => K0 g mT' tR' vL') (2 ^ wm_n (fun q => bt (su s) q || bt (su t) q) wd N + 1) 0 tR vL (by omega) (by omega) (fun i hi => absurd hi (by omega))⟩
                  · exact absurd q4 (by omega)
              refine pk_eq (pc_n (dc_b N kd ox oy oz wd fo (fun q => bt (su s) q || bt (su t) q) s t true) (2 ^ wm_n (fun q => bt (su s) q || bt (su t) q) wd N)) 0 (fun e => ?_) (fun e => ?_)
              · refine yy _ (fun _ mT' tR' vL' => ⟨rfl, zz_mk hR⟩) (fun ⟨j, j1, j2⟩ => ?_)
                have := pc_one j1 j2
                omega
              · refine yy _ (fun g => absurd (pc_z _ g) e) (fun _ mT' tR' vL' => ⟨rfl, zz_mk hR⟩)
          · refine m3 (fun mT' r q1 q2 q3 => ?_)
            have sl := sup_l a2 s1 t1 a3 a11 q1 q2
            have ww := wm_ws (wd := wd) sl.1 N (Nat.le_refl N)
            rcases q3 with q3 | ⟨-, q3⟩
            · exact q3.2
            · rcases q3 with q3 | q3
              · exact absurd q3.1 (by omega)
              · exact q3.2
        · rcases lt with e | e
          · exact absurd e r1
          · exact rdx (Or.inr e)
        · rcases ls with e | e
          · exact absurd e r0
          · exact rdx (Or.inl e)
      · rintro ⟨i, j, i1, j1, e1, e2, e3⟩
        rw [nI_eq (by omega) (by omega)] at e1 e2
        rw [e1, e2] at hw
        exact hw e3
    · refine sx_sig1 a2 a1 s1 (br_f (by decide) (sx_sig0 a2 a1 hr2 (br_t rfl (none ?_))))
      rintro ⟨i, j, i1, j1, e1, e2, e3⟩
      exact hr2 ⟨j, j1, e2⟩
  · refine sx_sig0 a2 a1 hr (br_t rfl (none ?_))
    rintro ⟨i, j, i1, j1, e1, e2, e3⟩
    exact hr ⟨i, i1, e1⟩
theorem i_vc_satisfied {k : Nat} {u : SX} {v : SY} (I : i_Rel k u v) (hk : k + 5 ≤ 2560) (v1 : Int32) : wpX_satisfied (fun r u' => wpY_satisfied (fun r' v' => r' = r ∧ i_Rel (k + 5) u' v') v v1) u v1 := by
  refine zz_el (P := fun u v => wpX_satisfied (fun r u' => wpY_satisfied (fun r' v' => r' = r ∧ i_Rel (k + 5) u' v') v v1) u v1) ?_ I
  intro N sN sC sW pP pD pE nc tc lV bU pL wH sE yd yw kd ox oy oz wd fo su rd dp nx en hS wO nO nW la lb nl fl eo so ne io td tf tb vL tR mT vA cH mK cA sK h
  have h' := h
  obtain ⟨⟨a1, a2, a3, a4, a5, a6, a7, a8, a9, a10, a11⟩, h2, h3, h4, h5, h6⟩ := h'
  unfold wpX_satisfied
  by_cases hr : ∃ j, j < N ∧ v1 = nI j
  · obtain ⟨s, s1, rfl⟩ := hr
    have cs : (nI s).toNatClampNeg = s := nI_clamp (by omega)
    have is : vp_in (nI s) 24 := vp_in_nI (by omega) (by omega)
    have ysup : ∀ post : Int32 → SY → Prop, (∀ mT' r, mt_ok N su rd mT' s s → (∀ a, a < N → mT' a = 1 → mt_c kd ox oy oz mT' a) → sr_p N kd wd mT' r → (0 ≤ r → ∃ n, wY_satisfied_29 post (nI s) r n 0 0 sN sC sW pP yd yw kd ox oy oz wd hS nO fo vL nx en wO nW tR mT') ∧ (¬ 0 ≤ r → post (-3) (sN, sC, sW, pP, yd, yw, kd, ox, oy, oz, wd, hS, nO, fo, vL, nx, en, wO, nW, tR, mT'))) → wpY_satisfied post (sN, sC, sW, pP, yd, yw, kd, ox, oy, oz, wd, hS, nO, fo, vL, nx, en, wO, nW, tR, mT) (nI s) := by
      intro post K
      unfold wpY_satisfied
      exact sy_sig1 a2 a1 s1 (br_f (by decide) (ys_sup a2 a1 s1 s1 a3 a11 (fun mT' r q1 q2 q3 => K mT' r q1 q2 q3)))
    have m3 : (∀ mT' r, mt_ok N su rd mT' s s → (∀ a, a < N → mT' a = 1 → mt_c kd ox oy oz mT' a) → sr_p N kd wd mT' r → r = -1) → wpY_satisfied (fun r' v' => r' = -3 ∧ i_Rel (k + 5) (sN, sC, sW, pP, pD, pE, nc, tc, lV, bU, pL, wH, sE, kd, ox, oy, oz, wd, fo, su, rd, dp, nx, en, hS, wO, nO, nW, la, lb, nl, fl, eo, so, ne, io, td, tf, tb, vA, cH, mK, cA, sK) v') (sN, sC, sW, pP, yd, yw, kd, ox, oy, oz, wd, hS, nO, fo, vL, nx, en, wO, nW, tR, mT) (nI s) := by
      intro g
      refine ysup _ (fun mT' r q1 q2 q3 => ?_)
      rw [g mT' r q1 q2 q3]
      exact br_f (by decide) ⟨rfl, zz_mk h⟩
    have uu : ∀ q, q < N → bt (su s) q = (fun q => bt (su s) q || bt (su s) q) q := fun q _ => (Bool.or_self _).symm
    have ls := (a11 s s1).2.1
    refine sx_sig1 a2 a1 s1 (br_f (by decide) ⟨is, ?_⟩)
    rw [cs]
    refine br_c (fun r0 => ⟨is, ?_⟩) (fun r0 => ?_)
    · have n18 : ¬ (rd s = 1 ∨ rd s = 1) := by
        rintro (e | e)
        · rw [r0] at e; exact absurd e (by decide)
        · rw [r0] at e; exact absurd e (by decide)
      have hw6 : ∀ t, t < N → wd t = nI (cl_n wd t) ∧ cl_n wd t ≤ 6 := fun t ht => ⟨(a3 t ht).2.2.1, (a3 t ht).2.2.2.2.1⟩
      have wle : wm_n (fun q => bt (su s) q || bt (su s) q) wd N ≤ 6 * N := wm_le (fun t ht => (hw6 t ht).2)
      refine dl_wt (c := (nc, la, lb, nl, fl)) a2 a1 hw6 uu ?_
      refine pk_le (wm_n (fun q => bt (su s) q || bt (su s) q) wd N) 8 (fun l8 => ⟨is, ?_⟩) (fun l8 => ?_)
      · refine dd_all (u := fun q => bt (su s) q || bt (su s) q) (z := false) (t := s) a2 a1 a3 a4 a5 a6 (st_sv h2) a10 a8 s1 s1 (fun _ => rfl) (if_neg (by decide)).symm uu (fun q hq e => ?_) l8 h4.2.2.2.2 (fun c eo' so' ne' vA' sK' he => ?_)
        · have cl := su_cl (P := fun _ => True) a3 a11 (fun _ _ _ => ⟨fun _ => trivial, fun _ _ => trivial, fun _ => trivial⟩)
          have e' : (bt (su s) q || bt (su s) q) = true := e
          rw [Bool.or_self] at e'
          exact ((cl (s + 1) s (Nat.lt_succ_self s) s1 trivial).1 q (by omega) e').2.2
        · have p256 : 2 ^ wm_n (fun q => bt (su s) q || bt (su s) q) wd N ≤ 256 := Nat.pow_le_pow_right (n := 2) (by decide) l8
          have hR : rl_ok N sN sC sW pP pD pE c.1 tc lV bU 1 wH sE kd ox oy oz wd fo su rd dp nx en hS wO nO nW c.2.1 c.2.2.1 c.2.2.2.1 c.2.2.2.2 eo' so' ne' io tf tb vA' cA sK' yd yw := ⟨⟨a1, a2, a3, a4, a5, a6, a7, a8, a9, a10, a11⟩, h2, h3, ⟨h4.1, h4.2.1, Or.inr rfl, h4.2.2.2.1, h4.2.2.2.2⟩, fun _ e => absurd e (by decide), h6⟩
          refine ysup _ (fun mT' r q1 q2 q3 => ?_)
          have sl := sup_l a2 s1 s1 a3 a11 q1 q2
          have nn : ¬ ∃ m, m < N ∧ mT' m = 1 ∧ kd m = 18 := fun e => n18 (sl.2.mp e)
          have ww := wm_ws (wd := wd) sl.1 N (Nat.le_refl N)
          rcases q3 with q3 | ⟨-, q3⟩
          · exact absurd q3.1 nn
          · rcases q3 with ⟨q4, q5⟩ | ⟨q4, q5⟩
            · rw [q5, ← ww]
              refine br_t (nI_pos' (by omega)) ?_
              exact ⟨_, ye_29 (mem := cl_n wO) (F := dc_b N kd ox oy oz wd fo (fun q => bt (su s) q || bt (su s) q) s s false) a2 a1 a3 a4 (fun p hp => h2.2 p hp) s1 l8 q1.1 sl.1 (fun k hk v hv => (hf_all (z := false) s1 s1 a3 q1 q2 nn he k hk v hv)) (fun tR' vL' => ⟨rfl, zz_mk hR⟩) (2 ^ wm_n (fun q => bt (su s) q || bt (su s) q) wd N + 1) 0 tR vL (Nat.lt_succ_self _) (Nat.zero_le _)⟩
            · exact absurd q4 (by omega)
      · refine m3 (fun mT' r q1 q2 q3 => ?_)
        have sl := sup_l a2 s1 s1 a3 a11 q1 q2
        have ww := wm_ws (wd := wd) sl.1 N (Nat.le_refl N)
        rcases q3 with q3 | ⟨-, q3⟩
        · exact q3.2
        · rcases q3 with q3 | q3
          · exact absurd q3.1 (by omega)
          · exact q3.2
    · rcases ls with e | e
      · exact absurd e r0
      · refine m3 (fun mT' r q1 q2 q3 => ?_)
        have sl := sup_l a2 s1 s1 a3 a11 q1 q2
        rcases q3 with q3 | q3
        · exact q3.2
        · exact absurd (sl.2.mpr (Or.inl e)) q3.1
  · refine sx_sig0 a2 a1 hr (br_t rfl ?_)
    show wpY_satisfied (fun r' v' => r' = -1 ∧ i_Rel (k + 5) (sN, sC, sW, pP, pD, pE, nc, tc, lV, bU, pL, wH, sE, kd, ox, oy, oz, wd, fo, su, rd, dp, nx, en, hS, wO, nO, nW, la, lb, nl, fl, eo, so, ne, io, td, tf, tb, vA, cH, mK, cA, sK) v') (sN, sC, sW, pP, yd, yw, kd, ox, oy, oz, wd, hS, nO, fo, vL, nx, en, wO, nW, tR, mT) v1
    unfold wpY_satisfied
    exact sy_sig0 a2 a1 hr (br_t rfl ⟨rfl, zz_mk h⟩)
end
