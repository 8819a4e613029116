section
/-! pure rows to paste: stores, nI and lN arithmetic, masks, shifts, narrowing, branches by naturals (pk_le, pk_lt, pk_eq), loops (lp1 .. lp16: the measure of the state; rp1 ..: recursion), negatives. Take what you need -/
theorem pk_us {f : Nat → Int32} {k : Nat} {x : Int32} : upd f k x k = x := if_pos rfl
theorem pk_un {f : Nat → Int32} {k j : Nat} {x : Int32} (h : j ≠ k) : upd f k x j = f j := if_neg h
theorem pk_uLs {f : Nat → Int64} {k : Nat} {x : Int64} : vp_updL f k x k = x := if_pos rfl
theorem pk_uLn {f : Nat → Int64} {k j : Nat} {x : Int64} (h : j ≠ k) : vp_updL f k x j = f j := if_neg h
theorem pk_sub {a b : Nat} (h : b ≤ a) : nI a - nI b = nI (a - b) := by
  obtain ⟨c, rfl⟩ : ∃ c, a = c + b := ⟨a - b, by omega⟩
  rw [← nI_add, Int32.add_sub_cancel, Nat.add_sub_cancel]
theorem pk_m1 (n : Nat) : nI (n + 1) + (-1) = nI n := by
  rw [← nI_1, Int32.add_assoc, show (1 : Int32) + (-1) = 0 from rfl, Int32.add_zero]
theorem pk_mul (a b : Nat) : nI a * nI b = nI (a * b) := (Int32.ofNat_mul a b).symm
theorem pk_div {a d : Nat} (ha : a < 2 ^ 31) (h0 : 0 < d) (hd : d < 2 ^ 31) : nI a / nI d = nI (a / d) := by
  apply Int32.toInt_inj.mp
  rw [lg_idiv_nonneg (by rw [nI_toInt ha]; omega) (by rw [nI_toInt hd]; omega), nI_toInt ha, nI_toInt hd, nI_toInt (Nat.lt_of_le_of_lt (Nat.div_le_self a d) ha)]
  first | rfl | exact (Int.natCast_ediv _ _).symm
theorem pk_rem {a d : Nat} (ha : a < 2 ^ 31) (h0 : 0 < d) (hd : d < 2 ^ 31) : nI a - nI a / nI d * nI d = nI (a % d) := by
  rw [pk_div ha h0 hd, pk_mul, pk_sub (Nat.div_mul_le_self a d)]
  exact congrArg nI (by have := Nat.div_add_mod' a d; omega)
theorem pk_sub_toInt {a b : Nat} (ha : a < 2 ^ 30) (hb : b < 2 ^ 30) : (nI a - nI b).toInt = (a : Int) - b := by
  rw [Int32.toInt_sub, nI_toInt (by omega), nI_toInt (by omega)]
  exact Int.bmod_eq_of_le (by omega) (by omega)
theorem pk_sneg {a b : Nat} (hb : b < 2 ^ 30) (h : a < b) : nI a - nI b < 0 := by
  rw [Int32.lt_iff_toInt_lt, pk_sub_toInt (by omega) hb, show (0 : Int32).toInt = 0 from by decide]
  omega
theorem pk_ix (x : Int32) {n : Nat} (hn : n < 2 ^ 31) : x < 0 ∨ nI n ≤ x ∨ ∃ j : Nat, j < n ∧ x = nI j := by
  by_cases h : x < 0
  · exact Or.inl h
  · obtain ⟨j, hj, rfl⟩ := nI_of h
    by_cases h2 : j < n
    · exact Or.inr (Or.inr ⟨j, h2, rfl⟩)
    · exact Or.inr (Or.inl (nI_le (by omega) hj))
theorem pk_le {x y : Int32} {A B : Prop} (a b : Nat) (f : a ≤ b → A) (g : b < a → B) (hx : x = nI a := by rfl) (hy : y = nI b := by rfl) (ha : a < 2 ^ 31 := by omega) (hb : b < 2 ^ 31 := by omega) : (x ≤ y → A) ∧ (¬ x ≤ y → B) := by
  subst hx hy
  rw [nI_leI ha hb]
  exact ⟨f, fun z => g (by omega)⟩
theorem pk_lt {x y : Int32} {A B : Prop} (a b : Nat) (f : a < b → A) (g : b ≤ a → B) (hx : x = nI a := by rfl) (hy : y = nI b := by rfl) (ha : a < 2 ^ 31 := by omega) (hb : b < 2 ^ 31 := by omega) : (x < y → A) ∧ (¬ x < y → B) := by
  subst hx hy
  rw [nI_ltI ha hb]
  exact ⟨f, fun z => g (by omega)⟩
theorem pk_eq {x y : Int32} {A B : Prop} (a b : Nat) (f : a = b → A) (g : a ≠ b → B) (hx : x = nI a := by rfl) (hy : y = nI b := by rfl) (ha : a < 2 ^ 31 := by omega) (hb : b < 2 ^ 31 := by omega) : (x = y → A) ∧ (¬ x = y → B) := by
  subst hx hy
  rw [nI_eq ha hb]
  exact ⟨f, g⟩
theorem pk_in {x : Int32} (n N : Nat) (h : n < N) (hx : x = nI n := by rfl) (hN : N < 2 ^ 31 := by omega) : vp_in x N := by
  subst hx
  exact vp_in_nI h hN
theorem pk_cl {x : Int32} (n : Nat) (hx : x = nI n := by rfl) (h : n < 2 ^ 31 := by omega) : x.toNatClampNeg = n := by
  subst hx
  exact nI_clamp h
theorem pk_tn {n : Nat} (h : n < 2 ^ 32) : (nI n).toBitVec.toNat = n := Nat.mod_eq_of_lt h
theorem pk_and (x : Int32) {m : Int32} (k : Nat) (hm : m.toBitVec.toNat = 2 ^ k - 1) : x &&& m = nI (x.toBitVec.toNat % 2 ^ k) := by
  apply Int32.toBitVec_inj.mp
  apply BitVec.eq_of_toNat_eq
  rw [Int32.toBitVec_and, BitVec.toNat_and, hm, Nat.and_two_pow_sub_one_eq_mod]
  show _ = (BitVec.ofNat 32 _).toNat
  rw [BitVec.toNat_ofNat]
  exact (Nat.mod_eq_of_lt (Nat.lt_of_le_of_lt (Nat.mod_le _ _) x.toBitVec.isLt)).symm
theorem pk_andN {n : Nat} (h : n < 2 ^ 32) {m : Int32} (k : Nat) (hm : m.toBitVec.toNat = 2 ^ k - 1) : nI n &&& m = nI (n % 2 ^ k) := by
  rw [pk_and _ k hm, pk_tn h]
theorem pk_andE (x : Int32) {m : Int32} (k : Nat) (hm : m.toBitVec.toNat = 2 ^ k - 1) : ∃ j : Nat, j < 2 ^ k ∧ x &&& m = nI j := ⟨_, Nat.mod_lt _ (Nat.two_pow_pos k), pk_and x k hm⟩
theorem pk_andIn (x : Int32) {m : Int32} (k : Nat) (hm : m.toBitVec.toNat = 2 ^ k - 1) (hk : k ≤ 30) : vp_in (x &&& m) (2 ^ k) := by
  obtain ⟨j, hj, e⟩ := pk_andE x k hm
  rw [e]
  exact vp_in_nI hj (Nat.lt_of_le_of_lt (Nat.pow_le_pow_right (by decide) hk) (by decide))
theorem pk_shl (a s : Int32) (k : Nat) (hs : (s.toBitVec.smod 32).toNat = k) : (a <<< s).toBitVec.toNat = a.toBitVec.toNat * 2 ^ k % 2 ^ 32 := by
  show (a.toBitVec <<< (s.toBitVec.smod 32).toNat).toNat = _
  rw [hs, BitVec.toNat_shiftLeft, Nat.shiftLeft_eq]
theorem pk_shlN {n : Nat} (s : Int32) (k : Nat) (hs : (s.toBitVec.smod 32).toNat = k) (h : n * 2 ^ k < 2 ^ 32) : nI n <<< s = nI (n * 2 ^ k) := by
  apply Int32.toBitVec_inj.mp
  apply BitVec.eq_of_toNat_eq
  have hn : n < 2 ^ 32 := Nat.lt_of_le_of_lt (Nat.le_mul_of_pos_right n (Nat.two_pow_pos k)) h
  rw [pk_shl _ _ k hs, pk_tn hn, pk_tn h, Nat.mod_eq_of_lt h]
theorem pk_shr (a s : Int32) (k : Nat) (hs : (s.toBitVec.smod 32).toNat = k) : (a >>> s).toInt = a.toInt >>> k := by
  show (a.toBitVec.sshiftRight (s.toBitVec.smod 32).toNat).toInt = _
  rw [hs, BitVec.toInt_sshiftRight]
  rfl
theorem pk_shrN {n : Nat} (h : n < 2 ^ 31) (s : Int32) (k : Nat) (hs : (s.toBitVec.smod 32).toNat = k) : nI n >>> s = nI (n / 2 ^ k) := by
  apply Int32.toInt_inj.mp
  have h2 : n / 2 ^ k ≤ n := Nat.div_le_self _ _
  rw [pk_shr _ _ k hs, nI_toInt h, nI_toInt (by omega), Int.shiftRight_eq_div_pow]
  rfl
theorem pk_ushr (x s : Int32) (k : Nat) (hs : ((s.toUInt32 &&& Int32.toUInt32 31).toBitVec % 32).toNat = k) : (x.toUInt32 >>> (s.toUInt32 &&& Int32.toUInt32 31)).toInt32.toBitVec.toNat = x.toBitVec.toNat / 2 ^ k := by
  have e : (x.toUInt32 >>> (s.toUInt32 &&& Int32.toUInt32 31)).toInt32.toBitVec = x.toBitVec >>> k := by
    rw [← hs]
    exact UInt32.toBitVec_shiftRight _ _
  rw [e, BitVec.toNat_ushiftRight, Nat.shiftRight_eq_div_pow]
theorem pk_ushrN {n : Nat} (hn : n < 2 ^ 32) (s : Int32) (k : Nat) (hs : ((s.toUInt32 &&& Int32.toUInt32 31).toBitVec % 32).toNat = k) : ((nI n).toUInt32 >>> (s.toUInt32 &&& Int32.toUInt32 31)).toInt32 = nI (n / 2 ^ k) := by
  apply Int32.toBitVec_inj.mp
  apply BitVec.eq_of_toNat_eq
  rw [pk_ushr _ s k hs, pk_tn hn, pk_tn (Nat.lt_of_le_of_lt (Nat.div_le_self _ _) hn)]
theorem pk_nb (z : Int32) : narrow .byte (.int z.toInt8.toInt32) = .int z.toInt8.toInt32 := congrArg Value.int (by simp)
theorem pk_ns (z : Int32) : narrow .short (.int z.toInt16.toInt32) = .int z.toInt16.toInt32 := congrArg Value.int (by simp)
theorem pk_fb (r : Int32) : fits .byte (.int r.toInt8.toInt32) = true := by
  have ⟨a, b⟩ := lg_i2b_range r
  have h1 : (-128 : Int32).toInt = -128 := by decide
  have h2 : (127 : Int32).toInt = 127 := by decide
  simp only [fits, Bool.and_eq_true, decide_eq_true_eq, Int32.le_iff_toInt_le, h1, h2]
  omega
theorem pk_fs (r : Int32) : fits .short (.int r.toInt16.toInt32) = true := by
  have ⟨a, b⟩ := lg_i2s_range r
  have h1 : (-32768 : Int32).toInt = -32768 := by decide
  have h2 : (32767 : Int32).toInt = 32767 := by decide
  simp only [fits, Bool.and_eq_true, decide_eq_true_eq, Int32.le_iff_toInt_le, h1, h2]
  omega
theorem pk_charN {q : Nat} (hq : q < 65536) : narrow .char (.int (nI q)) = .int (nI q) ∧ fits .char (.int (nI q)) = true := by
  constructor
  · have e : (nI q).toUInt32.toUInt16.toUInt32.toInt32 = nI q := by
      apply Int32.toBitVec_inj.mp
      apply BitVec.eq_of_toNat_eq
      show (nI q).toUInt32.toUInt16.toUInt32.toNat = q % 2 ^ 32
      rw [UInt16.toNat_toUInt32, UInt32.toNat_toUInt16, show (nI q).toUInt32.toNat = q % 2 ^ 32 from rfl]
      omega
    exact congrArg Value.int e
  · have a : (0 : Int32) ≤ nI q := nI_pos' (by omega)
    have b : nI q ≤ 65535 := nI_le (b := 65535) (by omega) (by decide)
    show (decide ((0 : Int32) ≤ nI q) && decide (nI q ≤ 65535)) = true
    rw [decide_eq_true a, decide_eq_true b]
    rfl
theorem pk_char (x : Int32) : (x.toUInt32 % 65536).toInt32 = nI (x.toBitVec.toNat % 65536) := by
  apply Int32.toBitVec_inj.mp
  apply BitVec.eq_of_toNat_eq
  rw [pk_tn (by omega)]
  show (x.toUInt32 % 65536).toNat = _
  rw [UInt32.toNat_mod]
  rfl
theorem pk_nc (x : Int32) : narrow .char (.int (x.toUInt32 % 65536).toInt32) = .int (x.toUInt32 % 65536).toInt32 := by
  rw [pk_char]
  exact (pk_charN (Nat.mod_lt _ (by decide))).1
theorem pk_fc (x : Int32) : fits .char (.int (x.toUInt32 % 65536).toInt32) = true := by
  rw [pk_char]
  exact (pk_charN (Nat.mod_lt _ (by decide))).2
theorem pk_vb (z : Int32) : vp_nar .byte z.toInt8.toInt32 = z.toInt8.toInt32 := by rw [vp_nar_byte]; simp
theorem pk_vs (z : Int32) : vp_nar .short z.toInt16.toInt32 = z.toInt16.toInt32 := by rw [vp_nar_short]; simp
theorem pk_vc (z : Int32) : vp_nar .char (z.toUInt32 % 65536).toInt32 = (z.toUInt32 % 65536).toInt32 := Value.int.inj (pk_nc z)
theorem pk_lT {n : Nat} (h : n < 2 ^ 63) : (lN n).toInt = (n : Int) := lg_ofNat_toInt h
theorem pk_lLT {a b : Nat} (ha : a < 2 ^ 63) (hb : b < 2 ^ 63) : lN a < lN b ↔ a < b := by
  rw [Int64.lt_iff_toInt_lt, pk_lT ha, pk_lT hb]; omega
theorem pk_lLE {a b : Nat} (ha : a < 2 ^ 63) (hb : b < 2 ^ 63) : lN a ≤ lN b ↔ a ≤ b := by
  rw [Int64.le_iff_toInt_le, pk_lT ha, pk_lT hb]; omega
theorem pk_lEQ {a b : Nat} (ha : a < 2 ^ 63) (hb : b < 2 ^ 63) : lN a = lN b ↔ a = b := by
  rw [← Int64.toInt_inj, pk_lT ha, pk_lT hb]; omega
theorem pk_lOf {x : Int64} (h : ¬ x < 0) : ∃ k : Nat, k < 2 ^ 63 ∧ x = lN k := by
  rw [Int64.lt_iff_toInt_lt] at h
  have h0 : (0 : Int64).toInt = 0 := by decide
  have hx := Int64.toInt_lt x
  refine ⟨x.toInt.toNat, by omega, Int64.toInt_inj.mp ?_⟩
  rw [pk_lT (by omega)]
  omega
theorem pk_lDiv {a b : Nat} (ha : a < 2 ^ 63) (h0 : 0 < b) (hb : b < 2 ^ 63) : lN a / lN b = lN (a / b) := by
  apply Int64.toInt_inj.mp
  rw [lg_ldiv_nonneg (by rw [pk_lT ha]; omega) (by rw [pk_lT hb]; omega), pk_lT ha, pk_lT hb, pk_lT (Nat.lt_of_le_of_lt (Nat.div_le_self a b) ha)]
  rfl
theorem pk_lRem {a b : Nat} (ha : a < 2 ^ 63) (h0 : 0 < b) (hb : b < 2 ^ 63) : lN a - lN a / lN b * lN b = lN (a % b) := by
  rw [pk_lDiv ha h0 hb, lN_mul, lN_sub (Nat.div_mul_le_self a b)]
  exact congrArg lN (by have := Nat.div_add_mod' a b; omega)
theorem pk_loop {σ : Type} (W : Nat → Nat → σ → Prop) (I : Nat → σ → Prop) (e i0 : Nat) (s : σ) (hi : i0 ≤ e) (h0 : I i0 s) (hx : ∀ n s, I e s → W (n + 1) e s)
    (hs : ∀ n i s, i < e → I i s → (∀ s', I (i + 1) s' → W n (i + 1) s') → W (n + 1) i s) : ∃ n, W n i0 s :=
  ⟨e + 1, loop_i W I e hx hs (e + 1) i0 s hi (by omega) h0⟩
theorem pk_loopD {σ : Type} (W : Nat → Nat → σ → Prop) (I : Nat → σ → Prop) (hx : ∀ n s, I 0 s → W (n + 1) 0 s)
    (hs : ∀ n i s, I (i + 1) s → (∀ s', I i s' → W n i s') → W (n + 1) (i + 1) s) : ∀ (e : Nat) (s : σ), I e s → W (e + 1) e s := by
  intro e
  induction e with
  | zero => exact fun s h => hx 0 s h
  | succ e ih => exact fun s h => hs (e + 1) e s h (fun s' h' => ih s' h')
theorem lp1 {A1 : Type} (W : Nat → A1 → Prop) (I : A1 → Prop) (μ : A1 → Nat) (hs : ∀ (n : Nat) (a1 : A1), I a1 → (∀ (b1 : A1), I b1 → μ b1 < μ a1 → W n b1) → W (n + 1) a1) (a1 : A1) (h : I a1) : ∃ n, W n a1 :=
  loop_m (σ := A1) (fun n s => W n s) (fun s => I s) (fun s => μ s) (fun n s hI hk => hs n s hI (fun b1 h9 hm => hk b1 h9 hm)) a1 h
theorem lp2 {A1 A2 : Type} (W : Nat → A1 → A2 → Prop) (I : A1 → A2 → Prop) (μ : A1 → A2 → Nat) (hs : ∀ (n : Nat) (a1 : A1) (a2 : A2), I a1 a2 → (∀ (b1 : A1) (b2 : A2), I b1 b2 → μ b1 b2 < μ a1 a2 → W n b1 b2) → W (n + 1) a1 a2) (a1 : A1) (a2 : A2) (h : I a1 a2) : ∃ n, W n a1 a2 :=
  loop_m (σ := A1 × A2) (fun n s => W n s.1 s.2) (fun s => I s.1 s.2) (fun s => μ s.1 s.2) (fun n s hI hk => hs n s.1 s.2 hI (fun b1 b2 h9 hm => hk (b1, b2) h9 hm)) (a1, a2) h
theorem lp3 {A1 A2 A3 : Type} (W : Nat → A1 → A2 → A3 → Prop) (I : A1 → A2 → A3 → Prop) (μ : A1 → A2 → A3 → Nat) (hs : ∀ (n : Nat) (a1 : A1) (a2 : A2) (a3 : A3), I a1 a2 a3 → (∀ (b1 : A1) (b2 : A2) (b3 : A3), I b1 b2 b3 → μ b1 b2 b3 < μ a1 a2 a3 → W n b1 b2 b3) → W (n + 1) a1 a2 a3) (a1 : A1) (a2 : A2) (a3 : A3) (h : I a1 a2 a3) : ∃ n, W n a1 a2 a3 :=
  loop_m (σ := A1 × A2 × A3) (fun n s => W n s.1 s.2.1 s.2.2) (fun s => I s.1 s.2.1 s.2.2) (fun s => μ s.1 s.2.1 s.2.2) (fun n s hI hk => hs n s.1 s.2.1 s.2.2 hI (fun b1 b2 b3 h9 hm => hk (b1, b2, b3) h9 hm)) (a1, a2, a3) h
theorem lp4 {A1 A2 A3 A4 : Type} (W : Nat → A1 → A2 → A3 → A4 → Prop) (I : A1 → A2 → A3 → A4 → Prop) (μ : A1 → A2 → A3 → A4 → Nat) (hs : ∀ (n : Nat) (a1 : A1) (a2 : A2) (a3 : A3) (a4 : A4), I a1 a2 a3 a4 → (∀ (b1 : A1) (b2 : A2) (b3 : A3) (b4 : A4), I b1 b2 b3 b4 → μ b1 b2 b3 b4 < μ a1 a2 a3 a4 → W n b1 b2 b3 b4) → W (n + 1) a1 a2 a3 a4) (a1 : A1) (a2 : A2) (a3 : A3) (a4 : A4) (h : I a1 a2 a3 a4) : ∃ n, W n a1 a2 a3 a4 :=
  loop_m (σ := A1 × A2 × A3 × A4) (fun n s => W n s.1 s.2.1 s.2.2.1 s.2.2.2) (fun s => I s.1 s.2.1 s.2.2.1 s.2.2.2) (fun s => μ s.1 s.2.1 s.2.2.1 s.2.2.2) (fun n s hI hk => hs n s.1 s.2.1 s.2.2.1 s.2.2.2 hI (fun b1 b2 b3 b4 h9 hm => hk (b1, b2, b3, b4) h9 hm)) (a1, a2, a3, a4) h
theorem lp5 {A1 A2 A3 A4 A5 : Type} (W : Nat → A1 → A2 → A3 → A4 → A5 → Prop) (I : A1 → A2 → A3 → A4 → A5 → Prop) (μ : A1 → A2 → A3 → A4 → A5 → Nat) (hs : ∀ (n : Nat) (a1 : A1) (a2 : A2) (a3 : A3) (a4 : A4) (a5 : A5), I a1 a2 a3 a4 a5 → (∀ (b1 : A1) (b2 : A2) (b3 : A3) (b4 : A4) (b5 : A5), I b1 b2 b3 b4 b5 → μ b1 b2 b3 b4 b5 < μ a1 a2 a3 a4 a5 → W n b1 b2 b3 b4 b5) → W (n + 1) a1 a2 a3 a4 a5) (a1 : A1) (a2 : A2) (a3 : A3) (a4 : A4) (a5 : A5) (h : I a1 a2 a3 a4 a5) : ∃ n, W n a1 a2 a3 a4 a5 :=
  loop_m (σ := A1 × A2 × A3 × A4 × A5) (fun n s => W n s.1 s.2.1 s.2.2.1 s.2.2.2.1 s.2.2.2.2) (fun s => I s.1 s.2.1 s.2.2.1 s.2.2.2.1 s.2.2.2.2) (fun s => μ s.1 s.2.1 s.2.2.1 s.2.2.2.1 s.2.2.2.2) (fun n s hI hk => hs n s.1 s.2.1 s.2.2.1 s.2.2.2.1 s.2.2.2.2 hI (fun b1 b2 b3 b4 b5 h9 hm => hk (b1, b2, b3, b4, b5) h9 hm)) (a1, a2, a3, a4, a5) h
theorem lp6 {A1 A2 A3 A4 A5 A6 : Type} (W : Nat → A1 → A2 → A3 → A4 → A5 → A6 → Prop) (I : A1 → A2 → A3 → A4 → A5 → A6 → Prop) (μ : A1 → A2 → A3 → A4 → A5 → A6 → Nat) (hs : ∀ (n : Nat) (a1 : A1) (a2 : A2) (a3 : A3) (a4 : A4) (a5 : A5) (a6 : A6), I a1 a2 a3 a4 a5 a6 → (∀ (b1 : A1) (b2 : A2) (b3 : A3) (b4 : A4) (b5 : A5) (b6 : A6), I b1 b2 b3 b4 b5 b6 → μ b1 b2 b3 b4 b5 b6 < μ a1 a2 a3 a4 a5 a6 → W n b1 b2 b3 b4 b5 b6) → W (n + 1) a1 a2 a3 a4 a5 a6) (a1 : A1) (a2 : A2) (a3 : A3) (a4 : A4) (a5 : A5) (a6 : A6) (h : I a1 a2 a3 a4 a5 a6) : ∃ n, W n a1 a2 a3 a4 a5 a6 :=
  loop_m (σ := A1 × A2 × A3 × A4 × A5 × A6) (fun n s => W n s.1 s.2.1 s.2.2.1 s.2.2.2.1 s.2.2.2.2.1 s.2.2.2.2.2) (fun s => I s.1 s.2.1 s.2.2.1 s.2.2.2.1 s.2.2.2.2.1 s.2.2.2.2.2) (fun s => μ s.1 s.2.1 s.2.2.1 s.2.2.2.1 s.2.2.2.2.1 s.2.2.2.2.2) (fun n s hI hk => hs n s.1 s.2.1 s.2.2.1 s.2.2.2.1 s.2.2.2.2.1 s.2.2.2.2.2 hI (fun b1 b2 b3 b4 b5 b6 h9 hm => hk (b1, b2, b3, b4, b5, b6) h9 hm)) (a1, a2, a3, a4, a5, a6) h
theorem lp7 {A1 A2 A3 A4 A5 A6 A7 : Type} (W : Nat → A1 → A2 → A3 → A4 → A5 → A6 → A7 → Prop) (I : A1 → A2 → A3 → A4 → A5 → A6 → A7 → Prop) (μ : A1 → A2 → A3 → A4 → A5 → A6 → A7 → Nat) (hs : ∀ (n : Nat) (a1 : A1) (a2 : A2) (a3 : A3) (a4 : A4) (a5 : A5) (a6 : A6) (a7 : A7), I a1 a2 a3 a4 a5 a6 a7 → (∀ (b1 : A1) (b2 : A2) (b3 : A3) (b4 : A4) (b5 : A5) (b6 : A6) (b7 : A7), I b1 b2 b3 b4 b5 b6 b7 → μ b1 b2 b3 b4 b5 b6 b7 < μ a1 a2 a3 a4 a5 a6 a7 → W n b1 b2 b3 b4 b5 b6 b7) → W (n + 1) a1 a2 a3 a4 a5 a6 a7) (a1 : A1) (a2 : A2) (a3 : A3) (a4 : A4) (a5 : A5) (a6 : A6) (a7 : A7) (h : I a1 a2 a3 a4 a5 a6 a7) : ∃ n, W n a1 a2 a3 a4 a5 a6 a7 :=
  loop_m (σ := A1 × A2 × A3 × A4 × A5 × A6 × A7) (fun n s => W n s.1 s.2.1 s.2.2.1 s.2.2.2.1 s.2.2.2.2.1 s.2.2.2.2.2.1 s.2.2.2.2.2.2) (fun s => I s.1 s.2.1 s.2.2.1 s.2.2.2.1 s.2.2.2.2.1 s.2.2.2.2.2.1 s.2.2.2.2.2.2) (fun s => μ s.1 s.2.1 s.2.2.1 s.2.2.2.1 s.2.2.2.2.1 s.2.2.2.2.2.1 s.2.2.2.2.2.2) (fun n s hI hk => hs n s.1 s.2.1 s.2.2.1 s.2.2.2.1 s.2.2.2.2.1 s.2.2.2.2.2.1 s.2.2.2.2.2.2 hI (fun b1 b2 b3 b4 b5 b6 b7 h9 hm => hk (b1, b2, b3, b4, b5, b6, b7) h9 hm)) (a1, a2, a3, a4, a5, a6, a7) h
theorem lp8 {A1 A2 A3 A4 A5 A6 A7 A8 : Type} (W : Nat → A1 → A2 → A3 → A4 → A5 → A6 → A7 → A8 → Prop) (I : A1 → A2 → A3 → A4 → A5 → A6 → A7 → A8 → Prop) (μ : A1 → A2 → A3 → A4 → A5 → A6 → A7 → A8 → Nat) (hs : ∀ (n : Nat) (a1 : A1) (a2 : A2) (a3 : A3) (a4 : A4) (a5 : A5) (a6 : A6) (a7 : A7) (a8 : A8), I a1 a2 a3 a4 a5 a6 a7 a8 → (∀ (b1 : A1) (b2 : A2) (b3 : A3) (b4 : A4) (b5 : A5) (b6 : A6) (b7 : A7) (b8 : A8), I b1 b2 b3 b4 b5 b6 b7 b8 → μ b1 b2 b3 b4 b5 b6 b7 b8 < μ a1 a2 a3 a4 a5 a6 a7 a8 → W n b1 b2 b3 b4 b5 b6 b7 b8) → W (n + 1) a1 a2 a3 a4 a5 a6 a7 a8) (a1 : A1) (a2 : A2) (a3 : A3) (a4 : A4) (a5 : A5) (a6 : A6) (a7 : A7) (a8 : A8) (h : I a1 a2 a3 a4 a5 a6 a7 a8) : ∃ n, W n a1 a2 a3 a4 a5 a6 a7 a8 :=
  loop_m (σ := A1 × A2 × A3 × A4 × A5 × A6 × A7 × A8) (fun n s => W n s.1 s.2.1 s.2.2.1 s.2.2.2.1 s.2.2.2.2.1 s.2.2.2.2.2.1 s.2.2.2.2.2.2.1 s.2.2.2.2.2.2.2) (fun s => I s.1 s.2.1 s.2.2.1 s.2.2.2.1 s.2.2.2.2.1 s.2.2.2.2.2.1 s.2.2.2.2.2.2.1 s.2.2.2.2.2.2.2) (fun s => μ s.1 s.2.1 s.2.2.1 s.2.2.2.1 s.2.2.2.2.1 s.2.2.2.2.2.1 s.2.2.2.2.2.2.1 s.2.2.2.2.2.2.2) (fun n s hI hk => hs n s.1 s.2.1 s.2.2.1 s.2.2.2.1 s.2.2.2.2.1 s.2.2.2.2.2.1 s.2.2.2.2.2.2.1 s.2.2.2.2.2.2.2 hI (fun b1 b2 b3 b4 b5 b6 b7 b8 h9 hm => hk (b1, b2, b3, b4, b5, b6, b7, b8) h9 hm)) (a1, a2, a3, a4, a5, a6, a7, a8) h
theorem lp9 {A1 A2 A3 A4 A5 A6 A7 A8 A9 : Type} (W : Nat → A1 → A2 → A3 → A4 → A5 → A6 → A7 → A8 → A9 → Prop) (I : A1 → A2 → A3 → A4 → A5 → A6 → A7 → A8 → A9 → Prop) (μ : A1 → A2 → A3 → A4 → A5 → A6 → A7 → A8 → A9 → Nat) (hs : ∀ (n : Nat) (a1 : A1) (a2 : A2) (a3 : A3) (a4 : A4) (a5 : A5) (a6 : A6) (a7 : A7) (a8 : A8) (a9 : A9), I a1 a2 a3 a4 a5 a6 a7 a8 a9 → (∀ (b1 : A1) (b2 : A2) (b3 : A3) (b4 : A4) (b5 : A5) (b6 : A6) (b7 : A7) (b8 : A8) (b9 : A9), I b1 b2 b3 b4 b5 b6 b7 b8 b9 → μ b1 b2 b3 b4 b5 b6 b7 b8 b9 < μ a1 a2 a3 a4 a5 a6 a7 a8 a9 → W n b1 b2 b3 b4 b5 b6 b7 b8 b9) → W (n + 1) a1 a2 a3 a4 a5 a6 a7 a8 a9) (a1 : A1) (a2 : A2) (a3 : A3) (a4 : A4) (a5 : A5) (a6 : A6) (a7 : A7) (a8 : A8) (a9 : A9) (h : I a1 a2 a3 a4 a5 a6 a7 a8 a9) : ∃ n, W n a1 a2 a3 a4 a5 a6 a7 a8 a9 :=
  loop_m (σ := A1 × A2 × A3 × A4 × A5 × A6 × A7 × A8 × A9) (fun n s => W n s.1 s.2.1 s.2.2.1 s.2.2.2.1 s.2.2.2.2.1 s.2.2.2.2.2.1 s.2.2.2.2.2.2.1 s.2.2.2.2.2.2.2.1 s.2.2.2.2.2.2.2.2) (fun s => I s.1 s.2.1 s.2.2.1 s.2.2.2.1 s.2.2.2.2.1 s.2.2.2.2.2.1 s.2.2.2.2.2.2.1 s.2.2.2.2.2.2.2.1 s.2.2.2.2.2.2.2.2) (fun s => μ s.1 s.2.1 s.2.2.1 s.2.2.2.1 s.2.2.2.2.1 s.2.2.2.2.2.1 s.2.2.2.2.2.2.1 s.2.2.2.2.2.2.2.1 s.2.2.2.2.2.2.2.2) (fun n s hI hk => hs n s.1 s.2.1 s.2.2.1 s.2.2.2.1 s.2.2.2.2.1 s.2.2.2.2.2.1 s.2.2.2.2.2.2.1 s.2.2.2.2.2.2.2.1 s.2.2.2.2.2.2.2.2 hI (fun b1 b2 b3 b4 b5 b6 b7 b8 b9 h9 hm => hk (b1, b2, b3, b4, b5, b6, b7, b8, b9) h9 hm)) (a1, a2, a3, a4, a5, a6, a7, a8, a9) h
theorem lp10 {A1 A2 A3 A4 A5 A6 A7 A8 A9 A10 : Type} (W : Nat → A1 → A2 → A3 → A4 → A5 → A6 → A7 → A8 → A9 → A10 → Prop) (I : A1 → A2 → A3 → A4 → A5 → A6 → A7 → A8 → A9 → A10 → Prop) (μ : A1 → A2 → A3 → A4 → A5 → A6 → A7 → A8 → A9 → A10 → Nat) (hs : ∀ (n : Nat) (a1 : A1) (a2 : A2) (a3 : A3) (a4 : A4) (a5 : A5) (a6 : A6) (a7 : A7) (a8 : A8) (a9 : A9) (a10 : A10), I a1 a2 a3 a4 a5 a6 a7 a8 a9 a10 → (∀ (b1 : A1) (b2 : A2) (b3 : A3) (b4 : A4) (b5 : A5) (b6 : A6) (b7 : A7) (b8 : A8) (b9 : A9) (b10 : A10), I b1 b2 b3 b4 b5 b6 b7 b8 b9 b10 → μ b1 b2 b3 b4 b5 b6 b7 b8 b9 b10 < μ a1 a2 a3 a4 a5 a6 a7 a8 a9 a10 → W n b1 b2 b3 b4 b5 b6 b7 b8 b9 b10) → W (n + 1) a1 a2 a3 a4 a5 a6 a7 a8 a9 a10) (a1 : A1) (a2 : A2) (a3 : A3) (a4 : A4) (a5 : A5) (a6 : A6) (a7 : A7) (a8 : A8) (a9 : A9) (a10 : A10) (h : I a1 a2 a3 a4 a5 a6 a7 a8 a9 a10) : ∃ n, W n a1 a2 a3 a4 a5 a6 a7 a8 a9 a10 :=
  loop_m (σ := A1 × A2 × A3 × A4 × A5 × A6 × A7 × A8 × A9 × A10) (fun n s => W n s.1 s.2.1 s.2.2.1 s.2.2.2.1 s.2.2.2.2.1 s.2.2.2.2.2.1 s.2.2.2.2.2.2.1 s.2.2.2.2.2.2.2.1 s.2.2.2.2.2.2.2.2.1 s.2.2.2.2.2.2.2.2.2) (fun s => I s.1 s.2.1 s.2.2.1 s.2.2.2.1 s.2.2.2.2.1 s.2.2.2.2.2.1 s.2.2.2.2.2.2.1 s.2.2.2.2.2.2.2.1 s.2.2.2.2.2.2.2.2.1 s.2.2.2.2.2.2.2.2.2) (fun s => μ s.1 s.2.1 s.2.2.1 s.2.2.2.1 s.2.2.2.2.1 s.2.2.2.2.2.1 s.2.2.2.2.2.2.1 s.2.2.2.2.2.2.2.1 s.2.2.2.2.2.2.2.2.1 s.2.2.2.2.2.2.2.2.2) (fun n s hI hk => hs n s.1 s.2.1 s.2.2.1 s.2.2.2.1 s.2.2.2.2.1 s.2.2.2.2.2.1 s.2.2.2.2.2.2.1 s.2.2.2.2.2.2.2.1 s.2.2.2.2.2.2.2.2.1 s.2.2.2.2.2.2.2.2.2 hI (fun b1 b2 b3 b4 b5 b6 b7 b8 b9 b10 h9 hm => hk (b1, b2, b3, b4, b5, b6, b7, b8, b9, b10) h9 hm)) (a1, a2, a3, a4, a5, a6, a7, a8, a9, a10) h
theorem lp11 {A1 A2 A3 A4 A5 A6 A7 A8 A9 A10 A11 : Type} (W : Nat → A1 → A2 → A3 → A4 → A5 → A6 → A7 → A8 → A9 → A10 → A11 → Prop) (I : A1 → A2 → A3 → A4 → A5 → A6 → A7 → A8 → A9 → A10 → A11 → Prop) (μ : A1 → A2 → A3 → A4 → A5 → A6 → A7 → A8 → A9 → A10 → A11 → Nat) (hs : ∀ (n : Nat) (a1 : A1) (a2 : A2) (a3 : A3) (a4 : A4) (a5 : A5) (a6 : A6) (a7 : A7) (a8 : A8) (a9 : A9) (a10 : A10) (a11 : A11), I a1 a2 a3 a4 a5 a6 a7 a8 a9 a10 a11 → (∀ (b1 : A1) (b2 : A2) (b3 : A3) (b4 : A4) (b5 : A5) (b6 : A6) (b7 : A7) (b8 : A8) (b9 : A9) (b10 : A10) (b11 : A11), I b1 b2 b3 b4 b5 b6 b7 b8 b9 b10 b11 → μ b1 b2 b3 b4 b5 b6 b7 b8 b9 b10 b11 < μ a1 a2 a3 a4 a5 a6 a7 a8 a9 a10 a11 → W n b1 b2 b3 b4 b5 b6 b7 b8 b9 b10 b11) → W (n + 1) a1 a2 a3 a4 a5 a6 a7 a8 a9 a10 a11) (a1 : A1) (a2 : A2) (a3 : A3) (a4 : A4) (a5 : A5) (a6 : A6) (a7 : A7) (a8 : A8) (a9 : A9) (a10 : A10) (a11 : A11) (h : I a1 a2 a3 a4 a5 a6 a7 a8 a9 a10 a11) : ∃ n, W n a1 a2 a3 a4 a5 a6 a7 a8 a9 a10 a11 :=
  loop_m (σ := A1 × A2 × A3 × A4 × A5 × A6 × A7 × A8 × A9 × A10 × A11) (fun n s => W n s.1 s.2.1 s.2.2.1 s.2.2.2.1 s.2.2.2.2.1 s.2.2.2.2.2.1 s.2.2.2.2.2.2.1 s.2.2.2.2.2.2.2.1 s.2.2.2.2.2.2.2.2.1 s.2.2.2.2.2.2.2.2.2.1 s.2.2.2.2.2.2.2.2.2.2) (fun s => I s.1 s.2.1 s.2.2.1 s.2.2.2.1 s.2.2.2.2.1 s.2.2.2.2.2.1 s.2.2.2.2.2.2.1 s.2.2.2.2.2.2.2.1 s.2.2.2.2.2.2.2.2.1 s.2.2.2.2.2.2.2.2.2.1 s.2.2.2.2.2.2.2.2.2.2) (fun s => μ s.1 s.2.1 s.2.2.1 s.2.2.2.1 s.2.2.2.2.1 s.2.2.2.2.2.1 s.2.2.2.2.2.2.1 s.2.2.2.2.2.2.2.1 s.2.2.2.2.2.2.2.2.1 s.2.2.2.2.2.2.2.2.2.1 s.2.2.2.2.2.2.2.2.2.2) (fun n s hI hk => hs n s.1 s.2.1 s.2.2.1 s.2.2.2.1 s.2.2.2.2.1 s.2.2.2.2.2.1 s.2.2.2.2.2.2.1 s.2.2.2.2.2.2.2.1 s.2.2.2.2.2.2.2.2.1 s.2.2.2.2.2.2.2.2.2.1 s.2.2.2.2.2.2.2.2.2.2 hI (fun b1 b2 b3 b4 b5 b6 b7 b8 b9 b10 b11 h9 hm => hk (b1, b2, b3, b4, b5, b6, b7, b8, b9, b10, b11) h9 hm)) (a1, a2, a3, a4, a5, a6, a7, a8, a9, a10, a11) h
theorem lp12 {A1 A2 A3 A4 A5 A6 A7 A8 A9 A10 A11 A12 : Type} (W : Nat → A1 → A2 → A3 → A4 → A5 → A6 → A7 → A8 → A9 → A10 → A11 → A12 → Prop) (I : A1 → A2 → A3 → A4 → A5 → A6 → A7 → A8 → A9 → A10 → A11 → A12 → Prop) (μ : A1 → A2 → A3 → A4 → A5 → A6 → A7 → A8 → A9 → A10 → A11 → A12 → Nat) (hs : ∀ (n : Nat) (a1 : A1) (a2 : A2) (a3 : A3) (a4 : A4) (a5 : A5) (a6 : A6) (a7 : A7) (a8 : A8) (a9 : A9) (a10 : A10) (a11 : A11) (a12 : A12), I a1 a2 a3 a4 a5 a6 a7 a8 a9 a10 a11 a12 → (∀ (b1 : A1) (b2 : A2) (b3 : A3) (b4 : A4) (b5 : A5) (b6 : A6) (b7 : A7) (b8 : A8) (b9 : A9) (b10 : A10) (b11 : A11) (b12 : A12), I b1 b2 b3 b4 b5 b6 b7 b8 b9 b10 b11 b12 → μ b1 b2 b3 b4 b5 b6 b7 b8 b9 b10 b11 b12 < μ a1 a2 a3 a4 a5 a6 a7 a8 a9 a10 a11 a12 → W n b1 b2 b3 b4 b5 b6 b7 b8 b9 b10 b11 b12) → W (n + 1) a1 a2 a3 a4 a5 a6 a7 a8 a9 a10 a11 a12) (a1 : A1) (a2 : A2) (a3 : A3) (a4 : A4) (a5 : A5) (a6 : A6) (a7 : A7) (a8 : A8) (a9 : A9) (a10 : A10) (a11 : A11) (a12 : A12) (h : I a1 a2 a3 a4 a5 a6 a7 a8 a9 a10 a11 a12) : ∃ n, W n a1 a2 a3 a4 a5 a6 a7 a8 a9 a10 a11 a12 :=
  loop_m (σ := A1 × A2 × A3 × A4 × A5 × A6 × A7 × A8 × A9 × A10 × A11 × A12) (fun n s => W n s.1 s.2.1 s.2.2.1 s.2.2.2.1 s.2.2.2.2.1 s.2.2.2.2.2.1 s.2.2.2.2.2.2.1 s.2.2.2.2.2.2.2.1 s.2.2.2.2.2.2.2.2.1 s.2.2.2.2.2.2.2.2.2.1 s.2.2.2.2.2.2.2.2.2.2.1 s.2.2.2.2.2.2.2.2.2.2.2) (fun s => I s.1 s.2.1 s.2.2.1 s.2.2.2.1 s.2.2.2.2.1 s.2.2.2.2.2.1 s.2.2.2.2.2.2.1 s.2.2.2.2.2.2.2.1 s.2.2.2.2.2.2.2.2.1 s.2.2.2.2.2.2.2.2.2.1 s.2.2.2.2.2.2.2.2.2.2.1 s.2.2.2.2.2.2.2.2.2.2.2) (fun s => μ s.1 s.2.1 s.2.2.1 s.2.2.2.1 s.2.2.2.2.1 s.2.2.2.2.2.1 s.2.2.2.2.2.2.1 s.2.2.2.2.2.2.2.1 s.2.2.2.2.2.2.2.2.1 s.2.2.2.2.2.2.2.2.2.1 s.2.2.2.2.2.2.2.2.2.2.1 s.2.2.2.2.2.2.2.2.2.2.2) (fun n s hI hk => hs n s.1 s.2.1 s.2.2.1 s.2.2.2.1 s.2.2.2.2.1 s.2.2.2.2.2.1 s.2.2.2.2.2.2.1 s.2.2.2.2.2.2.2.1 s.2.2.2.2.2.2.2.2.1 s.2.2.2.2.2.2.2.2.2.1 s.2.2.2.2.2.2.2.2.2.2.1 s.2.2.2.2.2.2.2.2.2.2.2 hI (fun b1 b2 b3 b4 b5 b6 b7 b8 b9 b10 b11 b12 h9 hm => hk (b1, b2, b3, b4, b5, b6, b7, b8, b9, b10, b11, b12) h9 hm)) (a1, a2, a3, a4, a5, a6, a7, a8, a9, a10, a11, a12) h
theorem lp13 {A1 A2 A3 A4 A5 A6 A7 A8 A9 A10 A11 A12 A13 : Type} (W : Nat → A1 → A2 → A3 → A4 → A5 → A6 → A7 → A8 → A9 → A10 → A11 → A12 → A13 → Prop) (I : A1 → A2 → A3 → A4 → A5 → A6 → A7 → A8 → A9 → A10 → A11 → A12 → A13 → Prop) (μ : A1 → A2 → A3 → A4 → A5 → A6 → A7 → A8 → A9 → A10 → A11 → A12 → A13 → Nat) (hs : ∀ (n : Nat) (a1 : A1) (a2 : A2) (a3 : A3) (a4 : A4) (a5 : A5) (a6 : A6) (a7 : A7) (a8 : A8) (a9 : A9) (a10 : A10) (a11 : A11) (a12 : A12) (a13 : A13), I a1 a2 a3 a4 a5 a6 a7 a8 a9 a10 a11 a12 a13 → (∀ (b1 : A1) (b2 : A2) (b3 : A3) (b4 : A4) (b5 : A5) (b6 : A6) (b7 : A7) (b8 : A8) (b9 : A9) (b10 : A10) (b11 : A11) (b12 : A12) (b13 : A13), I b1 b2 b3 b4 b5 b6 b7 b8 b9 b10 b11 b12 b13 → μ b1 b2 b3 b4 b5 b6 b7 b8 b9 b10 b11 b12 b13 < μ a1 a2 a3 a4 a5 a6 a7 a8 a9 a10 a11 a12 a13 → W n b1 b2 b3 b4 b5 b6 b7 b8 b9 b10 b11 b12 b13) → W (n + 1) a1 a2 a3 a4 a5 a6 a7 a8 a9 a10 a11 a12 a13) (a1 : A1) (a2 : A2) (a3 : A3) (a4 : A4) (a5 : A5) (a6 : A6) (a7 : A7) (a8 : A8) (a9 : A9) (a10 : A10) (a11 : A11) (a12 : A12) (a13 : A13) (h : I a1 a2 a3 a4 a5 a6 a7 a8 a9 a10 a11 a12 a13) : ∃ n, W n a1 a2 a3 a4 a5 a6 a7 a8 a9 a10 a11 a12 a13 :=
  loop_m (σ := A1 × A2 × A3 × A4 × A5 × A6 × A7 × A8 × A9 × A10 × A11 × A12 × A13) (fun n s => W n s.1 s.2.1 s.2.2.1 s.2.2.2.1 s.2.2.2.2.1 s.2.2.2.2.2.1 s.2.2.2.2.2.2.1 s.2.2.2.2.2.2.2.1 s.2.2.2.2.2.2.2.2.1 s.2.2.2.2.2.2.2.2.2.1 s.2.2.2.2.2.2.2.2.2.2.1 s.2.2.2.2.2.2.2.2.2.2.2.1 s.2.2.2.2.2.2.2.2.2.2.2.2) (fun s => I s.1 s.2.1 s.2.2.1 s.2.2.2.1 s.2.2.2.2.1 s.2.2.2.2.2.1 s.2.2.2.2.2.2.1 s.2.2.2.2.2.2.2.1 s.2.2.2.2.2.2.2.2.1 s.2.2.2.2.2.2.2.2.2.1 s.2.2.2.2.2.2.2.2.2.2.1 s.2.2.2.2.2.2.2.2.2.2.2.1 s.2.2.2.2.2.2.2.2.2.2.2.2) (fun s => μ s.1 s.2.1 s.2.2.1 s.2.2.2.1 s.2.2.2.2.1 s.2.2.2.2.2.1 s.2.2.2.2.2.2.1 s.2.2.2.2.2.2.2.1 s.2.2.2.2.2.2.2.2.1 s.2.2.2.2.2.2.2.2.2.1 s.2.2.2.2.2.2.2.2.2.2.1 s.2.2.2.2.2.2.2.2.2.2.2.1 s.2.2.2.2.2.2.2.2.2.2.2.2) (fun n s hI hk => hs n s.1 s.2.1 s.2.2.1 s.2.2.2.1 s.2.2.2.2.1 s.2.2.2.2.2.1 s.2.2.2.2.2.2.1 s.2.2.2.2.2.2.2.1 s.2.2.2.2.2.2.2.2.1 s.2.2.2.2.2.2.2.2.2.1 s.2.2.2.2.2.2.2.2.2.2.1 s.2.2.2.2.2.2.2.2.2.2.2.1 s.2.2.2.2.2.2.2.2.2.2.2.2 hI (fun b1 b2 b3 b4 b5 b6 b7 b8 b9 b10 b11 b12 b13 h9 hm => hk (b1, b2, b3, b4, b5, b6, b7, b8, b9, b10, b11, b12, b13) h9 hm)) (a1, a2, a3, a4, a5, a6, a7, a8, a9, a10, a11, a12, a13) h
theorem lp14 {A1 A2 A3 A4 A5 A6 A7 A8 A9 A10 A11 A12 A13 A14 : Type} (W : Nat → A1 → A2 → A3 → A4 → A5 → A6 → A7 → A8 → A9 → A10 → A11 → A12 → A13 → A14 → Prop) (I : A1 → A2 → A3 → A4 → A5 → A6 → A7 → A8 → A9 → A10 → A11 → A12 → A13 → A14 → Prop) (μ : A1 → A2 → A3 → A4 → A5 → A6 → A7 → A8 → A9 → A10 → A11 → A12 → A13 → A14 → Nat) (hs : ∀ (n : Nat) (a1 : A1) (a2 : A2) (a3 : A3) (a4 : A4) (a5 : A5) (a6 : A6) (a7 : A7) (a8 : A8) (a9 : A9) (a10 : A10) (a11 : A11) (a12 : A12) (a13 : A13) (a14 : A14), I a1 a2 a3 a4 a5 a6 a7 a8 a9 a10 a11 a12 a13 a14 → (∀ (b1 : A1) (b2 : A2) (b3 : A3) (b4 : A4) (b5 : A5) (b6 : A6) (b7 : A7) (b8 : A8) (b9 : A9) (b10 : A10) (b11 : A11) (b12 : A12) (b13 : A13) (b14 : A14), I b1 b2 b3 b4 b5 b6 b7 b8 b9 b10 b11 b12 b13 b14 → μ b1 b2 b3 b4 b5 b6 b7 b8 b9 b10 b11 b12 b13 b14 < μ a1 a2 a3 a4 a5 a6 a7 a8 a9 a10 a11 a12 a13 a14 → W n b1 b2 b3 b4 b5 b6 b7 b8 b9 b10 b11 b12 b13 b14) → W (n + 1) a1 a2 a3 a4 a5 a6 a7 a8 a9 a10 a11 a12 a13 a14) (a1 : A1) (a2 : A2) (a3 : A3) (a4 : A4) (a5 : A5) (a6 : A6) (a7 : A7) (a8 : A8) (a9 : A9) (a10 : A10) (a11 : A11) (a12 : A12) (a13 : A13) (a14 : A14) (h : I a1 a2 a3 a4 a5 a6 a7 a8 a9 a10 a11 a12 a13 a14) : ∃ n, W n a1 a2 a3 a4 a5 a6 a7 a8 a9 a10 a11 a12 a13 a14 :=
  loop_m (σ := A1 × A2 × A3 × A4 × A5 × A6 × A7 × A8 × A9 × A10 × A11 × A12 × A13 × A14) (fun n s => W n s.1 s.2.1 s.2.2.1 s.2.2.2.1 s.2.2.2.2.1 s.2.2.2.2.2.1 s.2.2.2.2.2.2.1 s.2.2.2.2.2.2.2.1 s.2.2.2.2.2.2.2.2.1 s.2.2.2.2.2.2.2.2.2.1 s.2.2.2.2.2.2.2.2.2.2.1 s.2.2.2.2.2.2.2.2.2.2.2.1 s.2.2.2.2.2.2.2.2.2.2.2.2.1 s.2.2.2.2.2.2.2.2.2.2.2.2.2) (fun s => I s.1 s.2.1 s.2.2.1 s.2.2.2.1 s.2.2.2.2.1 s.2.2.2.2.2.1 s.2.2.2.2.2.2.1 s.2.2.2.2.2.2.2.1 s.2.2.2.2.2.2.2.2.1 s.2.2.2.2.2.2.2.2.2.1 s.2.2.2.2.2.2.2.2.2.2.1 s.2.2.2.2.2.2.2.2.2.2.2.1 s.2.2.2.2.2.2.2.2.2.2.2.2.1 s.2.2.2.2.2.2.2.2.2.2.2.2.2) (fun s => μ s.1 s.2.1 s.2.2.1 s.2.2.2.1 s.2.2.2.2.1 s.2.2.2.2.2.1 s.2.2.2.2.2.2.1 s.2.2.2.2.2.2.2.1 s.2.2.2.2.2.2.2.2.1 s.2.2.2.2.2.2.2.2.2.1 s.2.2.2.2.2.2.2.2.2.2.1 s.2.2.2.2.2.2.2.2.2.2.2.1 s.2.2.2.2.2.2.2.2.2.2.2.2.1 s.2.2.2.2.2.2.2.2.2.2.2.2.2) (fun n s hI hk => hs n s.1 s.2.1 s.2.2.1 s.2.2.2.1 s.2.2.2.2.1 s.2.2.2.2.2.1 s.2.2.2.2.2.2.1 s.2.2.2.2.2.2.2.1 s.2.2.2.2.2.2.2.2.1 s.2.2.2.2.2.2.2.2.2.1 s.2.2.2.2.2.2.2.2.2.2.1 s.2.2.2.2.2.2.2.2.2.2.2.1 s.2.2.2.2.2.2.2.2.2.2.2.2.1 s.2.2.2.2.2.2.2.2.2.2.2.2.2 hI (fun b1 b2 b3 b4 b5 b6 b7 b8 b9 b10 b11 b12 b13 b14 h9 hm => hk (b1, b2, b3, b4, b5, b6, b7, b8, b9, b10, b11, b12, b13, b14) h9 hm)) (a1, a2, a3, a4, a5, a6, a7, a8, a9, a10, a11, a12, a13, a14) h
theorem lp15 {A1 A2 A3 A4 A5 A6 A7 A8 A9 A10 A11 A12 A13 A14 A15 : Type} (W : Nat → A1 → A2 → A3 → A4 → A5 → A6 → A7 → A8 → A9 → A10 → A11 → A12 → A13 → A14 → A15 → Prop) (I : A1 → A2 → A3 → A4 → A5 → A6 → A7 → A8 → A9 → A10 → A11 → A12 → A13 → A14 → A15 → Prop) (μ : A1 → A2 → A3 → A4 → A5 → A6 → A7 → A8 → A9 → A10 → A11 → A12 → A13 → A14 → A15 → Nat) (hs : ∀ (n : Nat) (a1 : A1) (a2 : A2) (a3 : A3) (a4 : A4) (a5 : A5) (a6 : A6) (a7 : A7) (a8 : A8) (a9 : A9) (a10 : A10) (a11 : A11) (a12 : A12) (a13 : A13) (a14 : A14) (a15 : A15), I a1 a2 a3 a4 a5 a6 a7 a8 a9 a10 a11 a12 a13 a14 a15 → (∀ (b1 : A1) (b2 : A2) (b3 : A3) (b4 : A4) (b5 : A5) (b6 : A6) (b7 : A7) (b8 : A8) (b9 : A9) (b10 : A10) (b11 : A11) (b12 : A12) (b13 : A13) (b14 : A14) (b15 : A15), I b1 b2 b3 b4 b5 b6 b7 b8 b9 b10 b11 b12 b13 b14 b15 → μ b1 b2 b3 b4 b5 b6 b7 b8 b9 b10 b11 b12 b13 b14 b15 < μ a1 a2 a3 a4 a5 a6 a7 a8 a9 a10 a11 a12 a13 a14 a15 → W n b1 b2 b3 b4 b5 b6 b7 b8 b9 b10 b11 b12 b13 b14 b15) → W (n + 1) a1 a2 a3 a4 a5 a6 a7 a8 a9 a10 a11 a12 a13 a14 a15) (a1 : A1) (a2 : A2) (a3 : A3) (a4 : A4) (a5 : A5) (a6 : A6) (a7 : A7) (a8 : A8) (a9 : A9) (a10 : A10) (a11 : A11) (a12 : A12) (a13 : A13) (a14 : A14) (a15 : A15) (h : I a1 a2 a3 a4 a5 a6 a7 a8 a9 a10 a11 a12 a13 a14 a15) : ∃ n, W n a1 a2 a3 a4 a5 a6 a7 a8 a9 a10 a11 a12 a13 a14 a15 :=
  loop_m (σ := A1 × A2 × A3 × A4 × A5 × A6 × A7 × A8 × A9 × A10 × A11 × A12 × A13 × A14 × A15) (fun n s => W n s.1 s.2.1 s.2.2.1 s.2.2.2.1 s.2.2.2.2.1 s.2.2.2.2.2.1 s.2.2.2.2.2.2.1 s.2.2.2.2.2.2.2.1 s.2.2.2.2.2.2.2.2.1 s.2.2.2.2.2.2.2.2.2.1 s.2.2.2.2.2.2.2.2.2.2.1 s.2.2.2.2.2.2.2.2.2.2.2.1 s.2.2.2.2.2.2.2.2.2.2.2.2.1 s.2.2.2.2.2.2.2.2.2.2.2.2.2.1 s.2.2.2.2.2.2.2.2.2.2.2.2.2.2) (fun s => I s.1 s.2.1 s.2.2.1 s.2.2.2.1 s.2.2.2.2.1 s.2.2.2.2.2.1 s.2.2.2.2.2.2.1 s.2.2.2.2.2.2.2.1 s.2.2.2.2.2.2.2.2.1 s.2.2.2.2.2.2.2.2.2.1 s.2.2.2.2.2.2.2.2.2.2.1 s.2.2.2.2.2.2.2.2.2.2.2.1 s.2.2.2.2.2.2.2.2.2.2.2.2.1 s.2.2.2.2.2.2.2.2.2.2.2.2.2.1 s.2.2.2.2.2.2.2.2.2.2.2.2.2.2) (fun s => μ s.1 s.2.1 s.2.2.1 s.2.2.2.1 s.2.2.2.2.1 s.2.2.2.2.2.1 s.2.2.2.2.2.2.1 s.2.2.2.2.2.2.2.1 s.2.2.2.2.2.2.2.2.1 s.2.2.2.2.2.2.2.2.2.1 s.2.2.2.2.2.2.2.2.2.2.1 s.2.2.2.2.2.2.2.2.2.2.2.1 s.2.2.2.2.2.2.2.2.2.2.2.2.1 s.2.2.2.2.2.2.2.2.2.2.2.2.2.1 s.2.2.2.2.2.2.2.2.2.2.2.2.2.2) (fun n s hI hk => hs n s.1 s.2.1 s.2.2.1 s.2.2.2.1 s.2.2.2.2.1 s.2.2.2.2.2.1 s.2.2.2.2.2.2.1 s.2.2.2.2.2.2.2.1 s.2.2.2.2.2.2.2.2.1 s.2.2.2.2.2.2.2.2.2.1 s.2.2.2.2.2.2.2.2.2.2.1 s.2.2.2.2.2.2.2.2.2.2.2.1 s.2.2.2.2.2.2.2.2.2.2.2.2.1 s.2.2.2.2.2.2.2.2.2.2.2.2.2.1 s.2.2.2.2.2.2.2.2.2.2.2.2.2.2 hI (fun b1 b2 b3 b4 b5 b6 b7 b8 b9 b10 b11 b12 b13 b14 b15 h9 hm => hk (b1, b2, b3, b4, b5, b6, b7, b8, b9, b10, b11, b12, b13, b14, b15) h9 hm)) (a1, a2, a3, a4, a5, a6, a7, a8, a9, a10, a11, a12, a13, a14, a15) h
theorem lp16 {A1 A2 A3 A4 A5 A6 A7 A8 A9 A10 A11 A12 A13 A14 A15 A16 : Type} (W : Nat → A1 → A2 → A3 → A4 → A5 → A6 → A7 → A8 → A9 → A10 → A11 → A12 → A13 → A14 → A15 → A16 → Prop) (I : A1 → A2 → A3 → A4 → A5 → A6 → A7 → A8 → A9 → A10 → A11 → A12 → A13 → A14 → A15 → A16 → Prop) (μ : A1 → A2 → A3 → A4 → A5 → A6 → A7 → A8 → A9 → A10 → A11 → A12 → A13 → A14 → A15 → A16 → Nat) (hs : ∀ (n : Nat) (a1 : A1) (a2 : A2) (a3 : A3) (a4 : A4) (a5 : A5) (a6 : A6) (a7 : A7) (a8 : A8) (a9 : A9) (a10 : A10) (a11 : A11) (a12 : A12) (a13 : A13) (a14 : A14) (a15 : A15) (a16 : A16), I a1 a2 a3 a4 a5 a6 a7 a8 a9 a10 a11 a12 a13 a14 a15 a16 → (∀ (b1 : A1) (b2 : A2) (b3 : A3) (b4 : A4) (b5 : A5) (b6 : A6) (b7 : A7) (b8 : A8) (b9 : A9) (b10 : A10) (b11 : A11) (b12 : A12) (b13 : A13) (b14 : A14) (b15 : A15) (b16 : A16), I b1 b2 b3 b4 b5 b6 b7 b8 b9 b10 b11 b12 b13 b14 b15 b16 → μ b1 b2 b3 b4 b5 b6 b7 b8 b9 b10 b11 b12 b13 b14 b15 b16 < μ a1 a2 a3 a4 a5 a6 a7 a8 a9 a10 a11 a12 a13 a14 a15 a16 → W n b1 b2 b3 b4 b5 b6 b7 b8 b9 b10 b11 b12 b13 b14 b15 b16) → W (n + 1) a1 a2 a3 a4 a5 a6 a7 a8 a9 a10 a11 a12 a13 a14 a15 a16) (a1 : A1) (a2 : A2) (a3 : A3) (a4 : A4) (a5 : A5) (a6 : A6) (a7 : A7) (a8 : A8) (a9 : A9) (a10 : A10) (a11 : A11) (a12 : A12) (a13 : A13) (a14 : A14) (a15 : A15) (a16 : A16) (h : I a1 a2 a3 a4 a5 a6 a7 a8 a9 a10 a11 a12 a13 a14 a15 a16) : ∃ n, W n a1 a2 a3 a4 a5 a6 a7 a8 a9 a10 a11 a12 a13 a14 a15 a16 :=
  loop_m (σ := A1 × A2 × A3 × A4 × A5 × A6 × A7 × A8 × A9 × A10 × A11 × A12 × A13 × A14 × A15 × A16) (fun n s => W n s.1 s.2.1 s.2.2.1 s.2.2.2.1 s.2.2.2.2.1 s.2.2.2.2.2.1 s.2.2.2.2.2.2.1 s.2.2.2.2.2.2.2.1 s.2.2.2.2.2.2.2.2.1 s.2.2.2.2.2.2.2.2.2.1 s.2.2.2.2.2.2.2.2.2.2.1 s.2.2.2.2.2.2.2.2.2.2.2.1 s.2.2.2.2.2.2.2.2.2.2.2.2.1 s.2.2.2.2.2.2.2.2.2.2.2.2.2.1 s.2.2.2.2.2.2.2.2.2.2.2.2.2.2.1 s.2.2.2.2.2.2.2.2.2.2.2.2.2.2.2) (fun s => I s.1 s.2.1 s.2.2.1 s.2.2.2.1 s.2.2.2.2.1 s.2.2.2.2.2.1 s.2.2.2.2.2.2.1 s.2.2.2.2.2.2.2.1 s.2.2.2.2.2.2.2.2.1 s.2.2.2.2.2.2.2.2.2.1 s.2.2.2.2.2.2.2.2.2.2.1 s.2.2.2.2.2.2.2.2.2.2.2.1 s.2.2.2.2.2.2.2.2.2.2.2.2.1 s.2.2.2.2.2.2.2.2.2.2.2.2.2.1 s.2.2.2.2.2.2.2.2.2.2.2.2.2.2.1 s.2.2.2.2.2.2.2.2.2.2.2.2.2.2.2) (fun s => μ s.1 s.2.1 s.2.2.1 s.2.2.2.1 s.2.2.2.2.1 s.2.2.2.2.2.1 s.2.2.2.2.2.2.1 s.2.2.2.2.2.2.2.1 s.2.2.2.2.2.2.2.2.1 s.2.2.2.2.2.2.2.2.2.1 s.2.2.2.2.2.2.2.2.2.2.1 s.2.2.2.2.2.2.2.2.2.2.2.1 s.2.2.2.2.2.2.2.2.2.2.2.2.1 s.2.2.2.2.2.2.2.2.2.2.2.2.2.1 s.2.2.2.2.2.2.2.2.2.2.2.2.2.2.1 s.2.2.2.2.2.2.2.2.2.2.2.2.2.2.2) (fun n s hI hk => hs n s.1 s.2.1 s.2.2.1 s.2.2.2.1 s.2.2.2.2.1 s.2.2.2.2.2.1 s.2.2.2.2.2.2.1 s.2.2.2.2.2.2.2.1 s.2.2.2.2.2.2.2.2.1 s.2.2.2.2.2.2.2.2.2.1 s.2.2.2.2.2.2.2.2.2.2.1 s.2.2.2.2.2.2.2.2.2.2.2.1 s.2.2.2.2.2.2.2.2.2.2.2.2.1 s.2.2.2.2.2.2.2.2.2.2.2.2.2.1 s.2.2.2.2.2.2.2.2.2.2.2.2.2.2.1 s.2.2.2.2.2.2.2.2.2.2.2.2.2.2.2 hI (fun b1 b2 b3 b4 b5 b6 b7 b8 b9 b10 b11 b12 b13 b14 b15 b16 h9 hm => hk (b1, b2, b3, b4, b5, b6, b7, b8, b9, b10, b11, b12, b13, b14, b15, b16) h9 hm)) (a1, a2, a3, a4, a5, a6, a7, a8, a9, a10, a11, a12, a13, a14, a15, a16) h
theorem pk_least (P : Nat → Prop) (h : ∃ k, P k) : ∃ k, P k ∧ ∀ j, j < k → ¬ P j := by
  obtain ⟨k, hk⟩ := h
  induction k using Nat.strongRecOn with
  | ind k ih =>
    by_cases e : ∃ j, j < k ∧ P j
    · obtain ⟨j, hj, pj⟩ := e
      exact ih j hj pj
    · exact ⟨k, hk, fun j hj pj => e ⟨j, hj, pj⟩⟩
theorem rp1 {ρ A1 : Type} (W : Nat → (ρ → Prop) → A1 → Prop) (ok : A1 → Prop) (μ : A1 → Nat) (val : A1 → ρ)
    (hs : ∀ (d : Nat) (post : ρ → Prop) (a1 : A1), ok a1 → post (val a1) → (∀ (post' : ρ → Prop) (b1 : A1), ok b1 → μ b1 < μ a1 → post' (val b1) → W d post' b1) → W (d + 1) post a1) :
    ∀ (d : Nat) (post : ρ → Prop) (a1 : A1), ok a1 → μ a1 < d → post (val a1) → W d post a1 := by
  intro d
  induction d with
  | zero => intro post a1 _ h; omega
  | succ d ih =>
    intro post a1 ho hm hp
    exact hs d post a1 ho hp (fun post' b1 ho' hm' hp' => ih post' b1 ho' (by omega) hp')
theorem rp2 {ρ A1 A2 : Type} (W : Nat → (ρ → Prop) → A1 → A2 → Prop) (ok : A1 → A2 → Prop) (μ : A1 → A2 → Nat) (val : A1 → A2 → ρ)
    (hs : ∀ (d : Nat) (post : ρ → Prop) (a1 : A1) (a2 : A2), ok a1 a2 → post (val a1 a2) → (∀ (post' : ρ → Prop) (b1 : A1) (b2 : A2), ok b1 b2 → μ b1 b2 < μ a1 a2 → post' (val b1 b2) → W d post' b1 b2) → W (d + 1) post a1 a2) :
    ∀ (d : Nat) (post : ρ → Prop) (a1 : A1) (a2 : A2), ok a1 a2 → μ a1 a2 < d → post (val a1 a2) → W d post a1 a2 := by
  intro d
  induction d with
  | zero => intro post a1 a2 _ h; omega
  | succ d ih =>
    intro post a1 a2 ho hm hp
    exact hs d post a1 a2 ho hp (fun post' b1 b2 ho' hm' hp' => ih post' b1 b2 ho' (by omega) hp')
theorem rp3 {ρ A1 A2 A3 : Type} (W : Nat → (ρ → Prop) → A1 → A2 → A3 → Prop) (ok : A1 → A2 → A3 → Prop) (μ : A1 → A2 → A3 → Nat) (val : A1 → A2 → A3 → ρ)
    (hs : ∀ (d : Nat) (post : ρ → Prop) (a1 : A1) (a2 : A2) (a3 : A3), ok a1 a2 a3 → post (val a1 a2 a3) → (∀ (post' : ρ → Prop) (b1 : A1) (b2 : A2) (b3 : A3), ok b1 b2 b3 → μ b1 b2 b3 < μ a1 a2 a3 → post' (val b1 b2 b3) → W d post' b1 b2 b3) → W (d + 1) post a1 a2 a3) :
    ∀ (d : Nat) (post : ρ → Prop) (a1 : A1) (a2 : A2) (a3 : A3), ok a1 a2 a3 → μ a1 a2 a3 < d → post (val a1 a2 a3) → W d post a1 a2 a3 := by
  intro d
  induction d with
  | zero => intro post a1 a2 a3 _ h; omega
  | succ d ih =>
    intro post a1 a2 a3 ho hm hp
    exact hs d post a1 a2 a3 ho hp (fun post' b1 b2 b3 ho' hm' hp' => ih post' b1 b2 b3 ho' (by omega) hp')
theorem rp4 {ρ A1 A2 A3 A4 : Type} (W : Nat → (ρ → Prop) → A1 → A2 → A3 → A4 → Prop) (ok : A1 → A2 → A3 → A4 → Prop) (μ : A1 → A2 → A3 → A4 → Nat) (val : A1 → A2 → A3 → A4 → ρ)
    (hs : ∀ (d : Nat) (post : ρ → Prop) (a1 : A1) (a2 : A2) (a3 : A3) (a4 : A4), ok a1 a2 a3 a4 → post (val a1 a2 a3 a4) → (∀ (post' : ρ → Prop) (b1 : A1) (b2 : A2) (b3 : A3) (b4 : A4), ok b1 b2 b3 b4 → μ b1 b2 b3 b4 < μ a1 a2 a3 a4 → post' (val b1 b2 b3 b4) → W d post' b1 b2 b3 b4) → W (d + 1) post a1 a2 a3 a4) :
    ∀ (d : Nat) (post : ρ → Prop) (a1 : A1) (a2 : A2) (a3 : A3) (a4 : A4), ok a1 a2 a3 a4 → μ a1 a2 a3 a4 < d → post (val a1 a2 a3 a4) → W d post a1 a2 a3 a4 := by
  intro d
  induction d with
  | zero => intro post a1 a2 a3 a4 _ h; omega
  | succ d ih =>
    intro post a1 a2 a3 a4 ho hm hp
    exact hs d post a1 a2 a3 a4 ho hp (fun post' b1 b2 b3 b4 ho' hm' hp' => ih post' b1 b2 b3 b4 ho' (by omega) hp')
theorem rp5 {ρ A1 A2 A3 A4 A5 : Type} (W : Nat → (ρ → Prop) → A1 → A2 → A3 → A4 → A5 → Prop) (ok : A1 → A2 → A3 → A4 → A5 → Prop) (μ : A1 → A2 → A3 → A4 → A5 → Nat) (val : A1 → A2 → A3 → A4 → A5 → ρ)
    (hs : ∀ (d : Nat) (post : ρ → Prop) (a1 : A1) (a2 : A2) (a3 : A3) (a4 : A4) (a5 : A5), ok a1 a2 a3 a4 a5 → post (val a1 a2 a3 a4 a5) → (∀ (post' : ρ → Prop) (b1 : A1) (b2 : A2) (b3 : A3) (b4 : A4) (b5 : A5), ok b1 b2 b3 b4 b5 → μ b1 b2 b3 b4 b5 < μ a1 a2 a3 a4 a5 → post' (val b1 b2 b3 b4 b5) → W d post' b1 b2 b3 b4 b5) → W (d + 1) post a1 a2 a3 a4 a5) :
    ∀ (d : Nat) (post : ρ → Prop) (a1 : A1) (a2 : A2) (a3 : A3) (a4 : A4) (a5 : A5), ok a1 a2 a3 a4 a5 → μ a1 a2 a3 a4 a5 < d → post (val a1 a2 a3 a4 a5) → W d post a1 a2 a3 a4 a5 := by
  intro d
  induction d with
  | zero => intro post a1 a2 a3 a4 a5 _ h; omega
  | succ d ih =>
    intro post a1 a2 a3 a4 a5 ho hm hp
    exact hs d post a1 a2 a3 a4 a5 ho hp (fun post' b1 b2 b3 b4 b5 ho' hm' hp' => ih post' b1 b2 b3 b4 b5 ho' (by omega) hp')
theorem rp6 {ρ A1 A2 A3 A4 A5 A6 : Type} (W : Nat → (ρ → Prop) → A1 → A2 → A3 → A4 → A5 → A6 → Prop) (ok : A1 → A2 → A3 → A4 → A5 → A6 → Prop) (μ : A1 → A2 → A3 → A4 → A5 → A6 → Nat) (val : A1 → A2 → A3 → A4 → A5 → A6 → ρ)
    (hs : ∀ (d : Nat) (post : ρ → Prop) (a1 : A1) (a2 : A2) (a3 : A3) (a4 : A4) (a5 : A5) (a6 : A6), ok a1 a2 a3 a4 a5 a6 → post (val a1 a2 a3 a4 a5 a6) → (∀ (post' : ρ → Prop) (b1 : A1) (b2 : A2) (b3 : A3) (b4 : A4) (b5 : A5) (b6 : A6), ok b1 b2 b3 b4 b5 b6 → μ b1 b2 b3 b4 b5 b6 < μ a1 a2 a3 a4 a5 a6 → post' (val b1 b2 b3 b4 b5 b6) → W d post' b1 b2 b3 b4 b5 b6) → W (d + 1) post a1 a2 a3 a4 a5 a6) :
    ∀ (d : Nat) (post : ρ → Prop) (a1 : A1) (a2 : A2) (a3 : A3) (a4 : A4) (a5 : A5) (a6 : A6), ok a1 a2 a3 a4 a5 a6 → μ a1 a2 a3 a4 a5 a6 < d → post (val a1 a2 a3 a4 a5 a6) → W d post a1 a2 a3 a4 a5 a6 := by
  intro d
  induction d with
  | zero => intro post a1 a2 a3 a4 a5 a6 _ h; omega
  | succ d ih =>
    intro post a1 a2 a3 a4 a5 a6 ho hm hp
    exact hs d post a1 a2 a3 a4 a5 a6 ho hp (fun post' b1 b2 b3 b4 b5 b6 ho' hm' hp' => ih post' b1 b2 b3 b4 b5 b6 ho' (by omega) hp')
theorem rec_p {σ ρ : Type} (W : Nat → (ρ → Prop) → σ → Prop) (ok : σ → Prop) (μ : σ → Nat) (val : σ → ρ)
    (hs : ∀ d s post, ok s → post (val s) → (∀ s' post', ok s' → μ s' < μ s → post' (val s') → W d post' s') → W (d + 1) post s) :
    ∀ d s post, ok s → μ s < d → post (val s) → W d post s := by
  intro d
  induction d with
  | zero => intro s post _ h; omega
  | succ d ih =>
    intro s post ho hm hp
    exact hs d s post ho hp (fun s' post' ho' hm' hp' => ih s' post' ho' (by omega) hp')
theorem rec_q {σ ρ : Type} (W : Nat → (ρ → Prop) → σ → Prop) (ok : σ → Prop) (μ : σ → Nat) (Q : σ → ρ → Prop)
    (hs : ∀ d s post, ok s → (∀ r, Q s r → post r) → (∀ s' post', ok s' → μ s' < μ s → (∀ r, Q s' r → post' r) → W d post' s') → W (d + 1) post s) :
    ∀ d s post, ok s → μ s < d → (∀ r, Q s r → post r) → W d post s := by
  intro d
  induction d with
  | zero => intro s post _ h; omega
  | succ d ih =>
    intro s post ho hm hp
    exact hs d s post ho hp (fun s' post' ho' hm' hp' => ih s' post' ho' (by omega) hp')
def bx_sum (f : Nat → Int32) : Nat → Int32
  | 0 => 0
  | n + 1 => bx_sum f n + f n
theorem ek_u {A : Prop} {B : Nat → Prop} {k N : Nat} (hk : k < N) (h : B k) : (some k = none → A) ∧ (∀ y : Nat, some k = some y → (y < N ∧ B y)) :=
  ⟨fun z => absurd z (Option.some_ne_none k), fun _ e => (by cases e; exact ⟨hk, h⟩)⟩
theorem ek_nu {A : Prop} {B : Nat → Prop} (h : A) : ((none : Option Nat) = none → A) ∧ (∀ y : Nat, (none : Option Nat) = some y → B y) :=
  ⟨fun _ => h, fun _ e => (by cases e)⟩
theorem ek_if {c d A B : Prop} (e : c ↔ d) (f : d → A) (g : ¬ d → B) : (c → A) ∧ (¬ c → B) :=
  ⟨fun z => f (e.mp z), fun z => g (fun y => z (e.mpr y))⟩
theorem ek_v {α : Sort _} {P : α → Prop} {a b : α} (e : a = b) (h : P b) : P a := e ▸ h
theorem co_some {x : Option Nat} {A : Prop} {B : Nat → Prop} (i : Nat) (h : B i) (hx : x = some i := by rfl) : (x = none → A) ∧ (∀ y : Nat, x = some y → B y) := by
  subst hx
  exact ⟨fun e => (nomatch e), fun y e => Option.some.inj e ▸ h⟩
theorem co_none {x : Option Nat} {A : Prop} {B : Nat → Prop} (h : A) (hx : x = none := by rfl) : (x = none → A) ∧ (∀ y : Nat, x = some y → B y) := by
  subst hx
  exact ⟨fun _ => h, fun y e => (nomatch e)⟩
theorem co_any {x : Option Nat} {A : Prop} {B : Nat → Prop} (hn : x = none → A) (hs : ∀ i : Nat, x = some i → B i) : (x = none → A) ∧ (∀ y : Nat, x = some y → B y) := ⟨hn, hs⟩
theorem co_2 {P : Nat → Prop} (h0 : P 0) (h1 : P 1) {i : Nat} (hi : i < 2) : P i :=
  match i, hi with
  | 0, _ => h0
  | 1, _ => h1
theorem co_3 {P : Nat → Prop} (h0 : P 0) (h1 : P 1) (h2 : P 2) {i : Nat} (hi : i < 3) : P i :=
  match i, hi with
  | 0, _ => h0
  | 1, _ => h1
  | 2, _ => h2
theorem co_4 {P : Nat → Prop} (h0 : P 0) (h1 : P 1) (h2 : P 2) (h3 : P 3) {i : Nat} (hi : i < 4) : P i :=
  match i, hi with
  | 0, _ => h0
  | 1, _ => h1
  | 2, _ => h2
  | 3, _ => h3
theorem co_dec {N : Nat} {P : Nat → Prop} [DecidablePred P] (h : (List.range N).all (fun i => decide (P i)) = true) {i : Nat} (hi : i < N) : P i := by
  have := List.all_eq_true.mp h i (List.mem_range.mpr hi)
  exact of_decide_eq_true this
theorem co_tab {α : Type} {l : List α} {d : α} {P : α → Prop} (h : ∀ a, a ∈ l → P a) {i : Nat} (hi : i < l.length) : P (l.getD i d) := by
  rw [List.getD_eq_getElem?_getD, List.getElem?_eq_getElem hi]
  exact h _ (List.getElem_mem hi)
theorem pk_mu {x : Int32} {L : Nat} (h0 : ¬ x < 0) (h : ¬ nI L ≤ x) (hL : L < 2 ^ 31) : ∃ j : Nat, j < L ∧ x = nI j ∧ x + 1 = nI (j + 1) ∧ x.toNatClampNeg = j ∧ L - (x + 1).toNatClampNeg < L - x.toNatClampNeg := by
  obtain ⟨j, hj, rfl⟩ := nI_of h0
  have hl : j < L := Nat.not_le.mp fun q => h (nI_le q hj)
  refine ⟨j, hl, rfl, nI_1 j, nI_clamp hj, ?_⟩
  rw [nI_1, nI_clamp (by omega), nI_clamp hj]
  omega
theorem op_s {α : Type} {r : Option α} {A : Prop} {B : α → Prop} {y : α} (h : r = some y) (b : B y) : (r = none → A) ∧ ∀ z, r = some z → B z :=
  ⟨fun e => (by rw [h] at e; cases e), fun z e => (by rw [h] at e; cases e; exact b)⟩
def l_holds {α : Type} (a : Nat → Option Nat) (LP : List Nat) (p : Nat → α) (c : Nat) (b : Nat → α) : Prop :=
  ∀ j, j < c → ∃ y, a j = some y ∧ y ∈ LP ∧ p y = b j
theorem l_holds_0 {α : Type} {a : Nat → Option Nat} {LP : List Nat} {p b : Nat → α} : l_holds a LP p 0 b := fun j h => absurd h (Nat.not_lt_zero j)
theorem l_in_new (LP : List Nat) (q : Nat) : q ∈ LP ++ [q] := List.mem_append.mpr (Or.inr (List.mem_singleton.mpr rfl))
def l_sum (b : Nat → Int32) : Nat → Int32
  | 0 => 0
  | k + 1 => l_sum b k + b k
theorem sb_shr0 (x : Int32) : x >>> ((0 : Int32) &&& 31) = x := by
  rw [show ((0 : Int32) &&& 31) = 0 by decide]
  simp
theorem sb_shl0 (x : Int32) : x <<< ((0 : Int32) &&& 31) = x := by
  rw [show ((0 : Int32) &&& 31) = 0 by decide]
  simp
theorem sb_cl0 : (0 : Int32).toNatClampNeg = 0 := by decide
theorem sb_m1 {p : Nat} (h : 0 < p) : nI p + (-1) = nI (p - 1) := by
  obtain ⟨q, rfl⟩ : ∃ q, p = q + 1 := ⟨p - 1, by omega⟩
  exact pk_m1 q
def sb_b (c : Nat) : Int32 := (nI c).toInt8.toInt32
theorem sb_byte : ∀ c, c < 256 → sb_b c &&& 255 = nI c ∧ ((nI c).toUInt32 % 65536).toInt32 = nI c ∧ nI c ≤ 255 := by decide +kernel
def sb_Fit (a : Nat → Int32) : Prop := ∀ j, fits .byte (.int (a j)) = true
def sb_Lat (t : Nat → Nat) (n : Nat) (a : Nat → Int32) : Prop := ∀ j, j < n → t j < 256 ∧ a j = sb_b (t j)
theorem sb_fitB (c : Nat) : fits .byte (.int (sb_b c)) = true := pk_fb _
theorem sb_fit0 : sb_Fit (fun _ => 0) := fun _ => by
  show fits .byte (.int 0) = true
  decide
theorem sb_fitU {a : Nat → Int32} {k : Nat} {x : Int32} (h : sb_Fit a) (hx : fits .byte (.int x) = true) : sb_Fit (upd a k x) := by
  intro j
  by_cases e : j = k
  · subst e
    rw [pk_us]
    exact hx
  · rw [pk_un e]
    exact h j
def sb_cat (t : Nat → Nat) (n : Nat) (s : Nat → Nat) : Nat → Nat := fun j => if j < n then t j else s (j - n)
theorem sb_cat_lo {t s : Nat → Nat} {n j : Nat} (h : j < n) : sb_cat t n s j = t j := if_pos h
theorem sb_cat_hi {t s : Nat → Nat} {n j : Nat} : sb_cat t n s (n + j) = s j := by
  show (if n + j < n then t (n + j) else s (n + j - n)) = s j
  rw [if_neg (by omega), Nat.add_sub_cancel_left]
theorem sb_latPut {t s : Nat → Nat} {n w : Nat} {a a' : Nat → Int32} (h : sb_Lat t n a) (hk : ∀ j, j < n → a' j = a j) (hs : ∀ i, i < w → s i < 256 ∧ a' (n + i) = sb_b (s i)) : sb_Lat (sb_cat t n s) (n + w) a' := by
  intro j hj
  by_cases e : j < n
  · rw [sb_cat_lo e, hk j e]
    exact h j e
  · obtain ⟨i, rfl⟩ : ∃ i, j = n + i := ⟨j - n, by omega⟩
    rw [sb_cat_hi]
    exact hs i (by omega)
theorem sb_latKeep {t : Nat → Nat} {n : Nat} {a a' : Nat → Int32} (h : sb_Lat t n a) (hk : ∀ j, j < n → a' j = a j) : sb_Lat t n a' := fun j hj => by
  rw [hk j hj]
  exact h j hj
def sb_cap (q m : Nat) : Nat := if q ≤ m then m else if 2 * m + 2 < q then q else 2 * m + 2
def sb_Room (q m mc ms : Nat) : Prop := q ≤ m ∨ (1 ≤ mc ∧ sb_cap q m ≤ ms ∧ sb_cap q m ≤ 65536)
theorem sb_cap_ge (q m : Nat) : q ≤ sb_cap q m := by
  unfold sb_cap
  split
  · omega
  · split <;> omega
theorem sb_cap_gem (q m : Nat) : m ≤ sb_cap q m := by
  unfold sb_cap
  split
  · omega
  · split <;> omega
theorem sb_cap_le {q m mc ms : Nat} (hm : m ≤ 65536) (hr : sb_Room q m mc ms) : sb_cap q m ≤ 65536 := by
  rcases hr with h | h
  · rw [sb_cap, if_pos h]
    exact hm
  · exact h.2.2
theorem sb_at {P : Int32 → Prop} {x y : Int32} (e : x = y) (h : P y) : P x := e ▸ h
def sb_dg (w : Nat) : Nat := if w < 10 then 1 else if w < 100 then 2 else if w < 1000 then 3 else if w < 10000 then 4 else if w < 100000 then 5 else if w < 1000000 then 6 else if w < 10000000 then 7 else if w < 100000000 then 8 else if w < 1000000000 then 9 else 10
def sb_dec (v : Nat) : Nat → Nat := fun i => 48 + v / 10 ^ (sb_dg v - 1 - i) % 10
theorem sb_dg_in (w : Nat) : 1 ≤ sb_dg w ∧ sb_dg w ≤ 10 := by
  unfold sb_dg
  constructor <;> (repeat' split) <;> omega
theorem sb_dg100 {w : Nat} (h : 100 ≤ w) (hw : w < 2 ^ 31) : sb_dg w = sb_dg (w / 100) + 2 := by
  rw [sb_dg, sb_dg, if_neg (show ¬ w < 10 by omega), if_neg (show ¬ w < 100 by omega)]
  by_cases h3 : w < 1000
  · rw [if_pos h3, if_pos (show w / 100 < 10 by omega)]
  rw [if_neg h3, if_neg (show ¬ w / 100 < 10 by omega)]
  by_cases h4 : w < 10000
  · rw [if_pos h4, if_pos (show w / 100 < 100 by omega)]
  rw [if_neg h4, if_neg (show ¬ w / 100 < 100 by omega)]
  by_cases h5 : w < 100000
  · rw [if_pos h5, if_pos (show w / 100 < 1000 by omega)]
  rw [if_neg h5, if_neg (show ¬ w / 100 < 1000 by omega)]
  by_cases h6 : w < 1000000
  · rw [if_pos h6, if_pos (show w / 100 < 10000 by omega)]
  rw [if_neg h6, if_neg (show ¬ w / 100 < 10000 by omega)]
  by_cases h7 : w < 10000000
  · rw [if_pos h7, if_pos (show w / 100 < 100000 by omega)]
  rw [if_neg h7, if_neg (show ¬ w / 100 < 100000 by omega)]
  by_cases h8 : w < 100000000
  · rw [if_pos h8, if_pos (show w / 100 < 1000000 by omega)]
  rw [if_neg h8, if_neg (show ¬ w / 100 < 1000000 by omega)]
  by_cases h9 : w < 1000000000
  · rw [if_pos h9, if_pos (show w / 100 < 10000000 by omega)]
  rw [if_neg h9, if_neg (show ¬ w / 100 < 10000000 by omega)]
  rw [if_pos (show w / 100 < 100000000 by omega)]
theorem sb_negT {w : Nat} (h : w < 2 ^ 31) : (-nI w).toInt = -(w : Int) := by
  rw [Int32.toInt_neg, nI_toInt h]
  exact Int.bmod_eq_of_le (by omega) (by omega)
theorem sb_nle {a b : Nat} (ha : a < 2 ^ 31) (hb : b < 2 ^ 31) : -nI a ≤ -nI b ↔ b ≤ a := by
  rw [Int32.le_iff_toInt_le, sb_negT ha, sb_negT hb]
  omega
theorem sb_nlt {a b : Nat} (ha : a < 2 ^ 31) (hb : b < 2 ^ 31) : -nI a < -nI b ↔ b < a := by
  rw [Int32.lt_iff_toInt_lt, sb_negT ha, sb_negT hb]
  omega
theorem sb_cmp {A B : Prop} {x : Int32} (v c : Nat) (f : c ≤ v → A) (g : v < c → B) (hv : v < 2 ^ 31) (hx : x = -nI c := by rfl) (hc : c < 2 ^ 31 := by omega) : (-nI v ≤ x → A) ∧ (¬ -nI v ≤ x → B) := by
  subst hx
  rw [sb_nle hv hc]
  exact ⟨f, fun z => g (by omega)⟩
theorem sb_ndiv {w : Nat} (hw : w < 2 ^ 31) : (-nI w) / 100 = -nI (w / 100) := by
  apply Int32.toInt_inj.mp
  have h100 : (100 : Int32).toInt = 100 := by decide
  rw [Int32.toInt_div, sb_negT hw, h100, sb_negT (by omega), Int.neg_tdiv, Int.tdiv_eq_ediv_of_nonneg (by omega), Int.bmod_eq_of_le (by omega) (by omega)]
  omega
theorem sb_nrem {w : Nat} (hw : w < 2 ^ 31) : (-nI (w / 100)) * 100 - (-nI w) = nI (w % 100) := by
  have h := pk_rem (a := w) (d := 100) hw (by decide) (by decide)
  rw [pk_div hw (by decide) (by decide)] at h
  rw [← h]
  show (-nI (w / 100)) * nI 100 - (-nI w) = nI w - nI (w / 100) * nI 100
  rw [Int32.neg_mul, Int32.sub_neg, Int32.add_comm, ← Int32.sub_eq_add_neg]
end
section
/-! rows on bits, shifts and unsigned numbers, to paste: each family out of a closed proof of our own, whole with what it rests on; each by itself clean at Lean in its own claim (generation 39, form 5). Take a family whole -/
/-! ===== Int32 by its bits: bt x i ===== -/
def bt (x : Int32) (i : Nat) : Bool := x.toBitVec.getLsbD i
theorem b_ext {x y : Int32} (h : ∀ i, i < 32 → bt x i = bt y i) : x = y := Int32.toBitVec_inj.mp (BitVec.eq_of_getLsbD_eq (fun i hi => h i hi))
theorem b_or (x y : Int32) (i : Nat) : bt (x ||| y) i = (bt x i || bt y i) := by unfold bt; rw [Int32.toBitVec_or, BitVec.getLsbD_or]
theorem b_and (x y : Int32) (i : Nat) : bt (x &&& y) i = (bt x i && bt y i) := by unfold bt; rw [Int32.toBitVec_and, BitVec.getLsbD_and]
theorem b_xor (x y : Int32) (i : Nat) : bt (x ^^^ y) i = (bt x i ^^ bt y i) := by unfold bt; rw [Int32.toBitVec_xor, BitVec.getLsbD_xor]
theorem b_big {x : Int32} {i : Nat} (h : 32 ≤ i) : bt x i = false := BitVec.getLsbD_of_ge _ _ h
theorem b_255 (i : Nat) : bt 255 i = decide (i < 8) := by
  rcases Nat.lt_or_ge i 32 with h | h
  · exact (by decide +kernel : ∀ i, i < 32 → bt 255 i = decide (i < 8)) i h
  · rw [b_big h, decide_eq_false (by omega)]
theorem b_65535 (i : Nat) : bt 65535 i = decide (i < 16) := by
  rcases Nat.lt_or_ge i 32 with h | h
  · exact (by decide +kernel : ∀ i, i < 32 → bt 65535 i = decide (i < 16)) i h
  · rw [b_big h, decide_eq_false (by omega)]
theorem b_m1 : ∀ i, i < 32 → bt (-1) i = true := by decide +kernel
theorem b_0 (i : Nat) : bt 0 i = false := BitVec.getLsbD_zero
theorem s_l : ∀ n, n < 32 → ((nI n &&& 31).toBitVec.smod 32).toNat = n := by decide +kernel
theorem s_u : ∀ n, n < 32 → (((nI n).toUInt32 &&& Int32.toUInt32 31).toBitVec % 32).toNat = n := by decide +kernel
theorem b_shl (n : Nat) (hn : n < 32) (x : Int32) {i : Nat} (hi : i < 32) : bt (x <<< (nI n &&& 31)) i = (decide (n ≤ i) && bt x (i - n)) := by
  unfold bt
  rw [Int32.toBitVec_shiftLeft]
  show (x.toBitVec <<< ((nI n &&& 31).toBitVec.smod 32).toNat).getLsbD i = _
  rw [s_l n hn, BitVec.getLsbD_shiftLeft]
  rcases Nat.lt_or_ge i n with h | h
  · simp [h, Nat.not_le.mpr h]
  · simp [hi, h, Nat.not_lt.mpr h]
theorem b_ushr (n : Nat) (hn : n < 32) (x : Int32) (i : Nat) : bt ((x.toUInt32 >>> ((nI n).toUInt32 &&& Int32.toUInt32 31)).toInt32) i = bt x (n + i) := by
  show (x.toUInt32 >>> ((nI n).toUInt32 &&& Int32.toUInt32 31)).toBitVec.getLsbD i = x.toUInt32.toBitVec.getLsbD (n + i)
  rw [UInt32.toBitVec_shiftRight]
  show (x.toUInt32.toBitVec >>> (((nI n).toUInt32 &&& Int32.toUInt32 31).toBitVec % 32).toNat).getLsbD i = _
  rw [s_u n hn, BitVec.getLsbD_ushiftRight]
theorem b_sshr (n : Nat) (hn : n < 32) (x : Int32) {i : Nat} (hi : i < 32) : bt (x >>> (nI n &&& 31)) i = if n + i < 32 then bt x (n + i) else bt x 31 := by
  unfold bt
  rw [Int32.toBitVec_shiftRight]
  show (x.toBitVec.sshiftRight ((nI n &&& 31).toBitVec.smod 32).toNat).getLsbD i = _
  rw [s_l n hn, BitVec.getLsbD_sshiftRight, BitVec.msb_eq_getLsbD_last]
  simp [hi]
theorem b_shl8 (x : Int32) {i : Nat} (hi : i < 32) : bt (x <<< ((8 : Int32) &&& 31)) i = (decide (8 ≤ i) && bt x (i - 8)) := b_shl 8 (by omega) x hi
theorem b_shl16 (x : Int32) {i : Nat} (hi : i < 32) : bt (x <<< ((16 : Int32) &&& 31)) i = (decide (16 ≤ i) && bt x (i - 16)) := b_shl 16 (by omega) x hi
theorem b_shl24 (x : Int32) {i : Nat} (hi : i < 32) : bt (x <<< ((24 : Int32) &&& 31)) i = (decide (24 ≤ i) && bt x (i - 24)) := b_shl 24 (by omega) x hi
theorem b_sshr8 (x : Int32) {i : Nat} (hi : i < 32) : bt (x >>> ((8 : Int32) &&& 31)) i = if 8 + i < 32 then bt x (8 + i) else bt x 31 := b_sshr 8 (by omega) x hi
/-! ===== nI under and, xor, >>>, one bit, 65535 ===== -/
theorem nx_and (a b : Nat) : nI a &&& nI b = nI (a &&& b) := by
  apply Int32.toBitVec_inj.1
  show BitVec.ofNat 32 a &&& BitVec.ofNat 32 b = BitVec.ofNat 32 (a &&& b)
  apply BitVec.eq_of_getLsbD_eq
  intro i hi
  simp [hi]
theorem nx_xor (a b : Nat) : nI a ^^^ nI b = nI (a ^^^ b) := by
  apply Int32.toBitVec_inj.1
  show BitVec.ofNat 32 a ^^^ BitVec.ofNat 32 b = BitVec.ofNat 32 (a ^^^ b)
  apply BitVec.eq_of_getLsbD_eq
  intro i hi
  simp [hi]
theorem nx_cnt : ∀ j : Fin 32, (UInt32.ofNat j.val &&& Int32.toUInt32 31).toNat % 32 = j.val := by decide +kernel
theorem nx_ush {k j : Nat} (hk : k < 65536) (hj : j < 32) : ((nI k).toUInt32 >>> ((nI j).toUInt32 &&& Int32.toUInt32 31)).toInt32 = nI (k >>> j) := by
  have hs : k >>> j ≤ k := by
    rw [Nat.shiftRight_eq_div_pow]
    exact Nat.div_le_self _ _
  have e2 : UInt32.ofNat k >>> (UInt32.ofNat j &&& Int32.toUInt32 31) = UInt32.ofNat (k >>> j) := by
    apply UInt32.toNat_inj.1
    have h1 : (UInt32.ofNat k).toNat = k := Nat.mod_eq_of_lt (by omega)
    have h2 : (UInt32.ofNat (k >>> j)).toNat = k >>> j := Nat.mod_eq_of_lt (by omega)
    rw [UInt32.toNat_shiftRight, nx_cnt ⟨j, hj⟩, h1, h2]
  show (UInt32.ofNat k >>> (UInt32.ofNat j &&& Int32.toUInt32 31)).toInt32 = _
  rw [e2]
  rfl
theorem nx_bit {k j : Nat} (hk : k < 65536) (hj : j < 16) : (((nI k).toUInt32 >>> ((nI j).toUInt32 &&& Int32.toUInt32 31)).toInt32 &&& 1) = 0 ↔ k.testBit j = false := by
  rw [nx_ush hk (by omega)]
  show nI (k >>> j) &&& nI 1 = 0 ↔ _
  rw [nx_and, Nat.and_one_is_mod, ← nI_0, nI_eq (by omega) (by omega), Nat.testBit_eq_decide_div_mod_eq, Nat.shiftRight_eq_div_pow, decide_eq_false_iff_not]
  generalize k / 2 ^ j = z
  omega
theorem nx_mod (k : Nat) : nI k &&& 65535 = nI (k % 65536) := by
  show nI k &&& nI 65535 = _
  rw [nx_and, show (65535 : Nat) = 2 ^ 16 - 1 from rfl, Nat.and_two_pow_sub_one_eq_mod]
theorem nx_m16 {k : Nat} (h : k < 65536) : nI k &&& 65535 = nI k := by rw [nx_mod, Nat.mod_eq_of_lt h]
theorem nx_mask (x : Int32) : ∃ k, k < 65536 ∧ x &&& 65535 = nI k := by
  have e : x = nI x.toBitVec.toNat := by
    apply Int32.toBitVec_inj.1
    show x.toBitVec = BitVec.ofNat 32 x.toBitVec.toNat
    simp
  refine ⟨x.toBitVec.toNat % 65536, Nat.mod_lt _ (by omega), ?_⟩
  rw [← nx_mod, ← e]
/-! ===== Int32 as a set of bits: test, set ===== -/
def nf_M (m : Int32) : Nat := 4294967296 - m.toBitVec.toNat
theorem nf_sh : ∀ l, l < 32 → ((1 : Int32) <<< (nI l &&& 31)).toBitVec = BitVec.twoPow 32 l := by decide +kernel
theorem nf_sl : ∀ l, l < 32 → (((nI l).toUInt32 &&& Int32.toUInt32 31).toBitVec % 32).toNat = l := by decide +kernel
theorem nf_tp : ∀ l, l < 32 → BitVec.twoPow 32 l ≠ 0#32 := by decide +kernel
theorem nf_bit (m : Int32) (l : Nat) (hl : l < 32) : ((m.toUInt32 >>> ((nI l).toUInt32 &&& Int32.toUInt32 31)).toInt32 &&& 1) = 0 ↔ (m &&& ((1 : Int32) <<< (nI l &&& 31))) = 0 := by
  have e : ((m.toUInt32 >>> ((nI l).toUInt32 &&& Int32.toUInt32 31)).toInt32).toBitVec = m.toBitVec >>> l := by
    show m.toBitVec >>> (((nI l).toUInt32 &&& Int32.toUInt32 31).toBitVec % 32) = m.toBitVec >>> l
    rw [BitVec.ushiftRight_eq', nf_sl l hl]
  rw [← Int32.toBitVec_inj, ← Int32.toBitVec_inj, Int32.toBitVec_and, Int32.toBitVec_and, nf_sh l hl, e, BitVec.and_twoPow]
  show (m.toBitVec >>> l &&& 1#32) = 0#32 ↔ _ = 0#32
  rw [BitVec.and_one_eq_setWidth_ofBool_getLsbD, BitVec.getLsbD_ushiftRight, Nat.add_zero]
  cases hb : m.toBitVec.getLsbD l
  · exact ⟨fun _ => by simp, fun _ => by decide⟩
  · exact ⟨fun z => absurd z (by decide), fun z => absurd ((if_pos rfl).symm.trans z) (nf_tp l hl)⟩
theorem nf_gr (m k : Int32) (h : m &&& k = 0) (hk : k ≠ 0) : nf_M (m ||| k) < nf_M m := by
  have hm := m.toBitVec.isLt
  have hm' := (m ||| k).toBitVec.isLt
  have h1 : m.toBitVec.toNat ≤ (m ||| k).toBitVec.toNat := by
    rw [Int32.toBitVec_or, BitVec.toNat_or]
    exact Nat.left_le_or
  have h2 : m.toBitVec.toNat ≠ (m ||| k).toBitVec.toNat := by
    intro e
    have e2 : m = m ||| k := Int32.toBitVec_inj.mp (BitVec.eq_of_toNat_eq e)
    apply hk
    apply Int32.toBitVec_inj.mp
    show k.toBitVec = 0#32
    apply BitVec.eq_of_getLsbD_eq
    intro i hi
    have a : m.toBitVec.getLsbD i = (m.toBitVec.getLsbD i || k.toBitVec.getLsbD i) := by rw [← BitVec.getLsbD_or, ← Int32.toBitVec_or, ← e2]
    have b : (m.toBitVec.getLsbD i && k.toBitVec.getLsbD i) = false := by
      rw [← BitVec.getLsbD_and, ← Int32.toBitVec_and, h]
      exact BitVec.getLsbD_zero
    rw [BitVec.getLsbD_zero]
    revert a b
    cases m.toBitVec.getLsbD i <;> cases k.toBitVec.getLsbD i <;> simp
  unfold nf_M
  omega
/-! ===== a byte read unsigned ===== -/
theorem bp_b (x : Int32) : x.toInt8.toInt32 &&& 255 = x &&& 255 := by
  apply Int32.toBitVec_inj.mp
  rw [Int32.toBitVec_and, Int32.toBitVec_and, Int8.toBitVec_toInt32, Int32.toBitVec_toInt8]
  apply BitVec.eq_of_getLsbD_eq
  intro i hi
  rw [BitVec.getLsbD_and, BitVec.getLsbD_and]
  have hm : ∀ i < 32, 8 ≤ i → (255 : Int32).toBitVec.getLsbD i = false := by decide
  rcases Nat.lt_or_ge i 8 with z | z
  · rw [BitVec.getLsbD_signExtend, BitVec.getLsbD_signExtend, if_pos z, if_pos hi]
    simp only [z, hi, decide_true, Bool.true_and]
  · rw [hm i hi z]; simp
/-! ===== the char cast and 65535 ===== -/
theorem em_w (v : Int32) : ∃ w : Nat, w < 65536 ∧ (v.toUInt32 % 65536).toInt32 = nI w ∧ v &&& 65535 = nI w := by
  have hr := lw_u16_r v
  have h0 : (0 : Int32).toInt = 0 := by decide
  obtain ⟨w, h1, h2⟩ := nI_of (x := lw_u16 v) (by rw [Int32.lt_iff_toInt_lt]; omega)
  have h3 : (v.toUInt32 % 65536).toInt32 = nI w := h2
  rw [h2, nI_toInt h1] at hr
  exact ⟨w, by omega, h3, by rw [← lg_i2c_mask, ← lg_i2c_nf, h3]⟩
/-! ===== Int64 as a set of bits: test, set, clear ===== -/
theorem ts_nf {x : Bool} (h : ¬ x = false) : x = true := by cases x <;> first | rfl | exact absurd rfl h
theorem ts_nt {x : Bool} (h : ¬ x = true) : x = false := by cases x <;> first | rfl | exact absurd rfl h
theorem ts_bit {w : Int64} {s : UInt64} {j : Nat} (hj : j < 64) (hs : s.toNat = j) : ((w.toUInt64 >>> s).toInt64 &&& 1) = 0 ↔ w.toBitVec.getLsbD j = false := by
  have e : (w.toUInt64 >>> s).toInt64.toBitVec = w.toBitVec >>> j := by
    apply BitVec.eq_of_toNat_eq
    show (w.toUInt64 >>> s).toNat = _
    rw [UInt64.toNat_shiftRight, hs, Nat.mod_eq_of_lt hj, BitVec.toNat_ushiftRight]
    rfl
  rw [← Int64.toBitVec_inj, Int64.toBitVec_and, e]
  show w.toBitVec >>> j &&& 1#64 = 0#64 ↔ _
  constructor
  · intro h
    have t := congrArg (fun x => x.getLsbD 0) h
    simpa using t
  · intro h
    apply BitVec.eq_of_getLsbD_eq
    intro i hi
    cases i with
    | zero => simp [h]
    | succ i => simp
theorem ts_or {w m : Int64} {j : Nat} (hj : j < 64) (hm : m.toBitVec = BitVec.twoPow 64 j) : (w ||| m) = w ↔ w.toBitVec.getLsbD j = true := by
  rw [← Int64.toBitVec_inj, Int64.toBitVec_or, hm]
  constructor
  · intro h
    have t := congrArg (fun x => x.getLsbD j) h
    simp only [BitVec.getLsbD_or, BitVec.getLsbD_twoPow] at t
    simpa [hj] using t.symm
  · intro h
    apply BitVec.eq_of_getLsbD_eq
    intro i hi
    rw [BitVec.getLsbD_or, BitVec.getLsbD_twoPow]
    by_cases e : j = i
    · subst e; rw [h, Bool.true_or]
    · simp [e]
theorem ts_and {w m : Int64} {j : Nat} (hj : j < 64) (hm : m.toBitVec = BitVec.twoPow 64 j) : (w &&& (m ^^^ (-1))) = w ↔ w.toBitVec.getLsbD j = false := by
  have ha : (-1 : Int64).toBitVec = BitVec.allOnes 64 := by decide
  rw [← Int64.toBitVec_inj, Int64.toBitVec_and, Int64.toBitVec_xor, hm, ha]
  constructor
  · intro h
    have t := congrArg (fun x => x.getLsbD j) h
    simp only [BitVec.getLsbD_and, BitVec.getLsbD_xor, BitVec.getLsbD_twoPow, BitVec.getLsbD_allOnes] at t
    simpa [hj] using t.symm
  · intro h
    apply BitVec.eq_of_getLsbD_eq
    intro i hi
    rw [BitVec.getLsbD_and, BitVec.getLsbD_xor, BitVec.getLsbD_twoPow, BitVec.getLsbD_allOnes]
    by_cases e : j = i
    · subst e; rw [h, Bool.false_and]
    · simp [e, hi]
/-! ===== lN n to 2^64: shifts, and, or, masks, one bit ===== -/
theorem wb_tb (n : Nat) : (lN n).toBitVec = BitVec.ofNat 64 n := rfl
theorem wb_inj {a b : Int64} (h : a.toBitVec = b.toBitVec) : a = b := Int64.toBitVec_inj.mp h
theorem wb_tn {n : Nat} (h : n < 2 ^ 64) : (lN n).toBitVec.toNat = n := by rw [wb_tb, BitVec.toNat_ofNat, Nat.mod_eq_of_lt h]
theorem wb_of (x : Int64) : ∃ n, n < 2 ^ 64 ∧ x = lN n := ⟨x.toBitVec.toNat, x.toBitVec.isLt, wb_inj (by rw [wb_tb]; simp)⟩
theorem wb_of32 (x : Int32) : ∃ n, n < 2 ^ 32 ∧ x = nI n := ⟨x.toBitVec.toNat, x.toBitVec.isLt, Int32.toBitVec_inj.mp (by show _ = BitVec.ofNat 32 _; simp)⟩
theorem wb_c : ∀ k, k < 64 → ((nI k).toInt64 &&& 63) = lN k := by decide +kernel
theorem wb_cu : ∀ k, k < 64 → ((nI k).toInt64.toUInt64 &&& Int64.toUInt64 63) = UInt64.ofNat k := by decide +kernel
theorem wb_sm : ∀ k, k < 64 → (BitVec.ofNat 64 k).smod 64 = BitVec.ofNat 64 k := by decide +kernel
theorem wb_pw {a b : Nat} (h : a ≤ b) : 2 ^ b = 2 ^ a * 2 ^ (b - a) := by rw [← Nat.pow_add]; congr 1; omega
theorem wb_lt2 {a b : Nat} (h : a < b) : 2 ^ a < 2 ^ b := Nat.pow_lt_pow_right (by decide) h
theorem wb_mod (n : Nat) : lN n = lN (n % 2 ^ 64) := wb_inj (by rw [wb_tb, wb_tb]; apply BitVec.eq_of_toNat_eq; rw [BitVec.toNat_ofNat, BitVec.toNat_ofNat, Nat.mod_mod])
theorem wb_shr {n k : Nat} (hn : n < 2 ^ 64) (hk : k < 64) : ((lN n).toUInt64 >>> ((nI k).toInt64.toUInt64 &&& Int64.toUInt64 63)).toInt64 = lN (n / 2 ^ k) := by
  rw [wb_cu k hk]
  apply wb_inj
  apply BitVec.eq_of_toNat_eq
  show ((lN n).toUInt64 >>> UInt64.ofNat k).toNat = (BitVec.ofNat 64 _).toNat
  have h1 : (UInt64.ofNat k).toNat = k := by
    show (BitVec.ofNat 64 k).toNat = k
    rw [BitVec.toNat_ofNat, Nat.mod_eq_of_lt (by omega)]
  have h2 : (lN n).toUInt64.toNat = n := wb_tn hn
  rw [UInt64.toNat_shiftRight, h1, h2, Nat.mod_eq_of_lt hk, Nat.shiftRight_eq_div_pow, BitVec.toNat_ofNat, Nat.mod_eq_of_lt (Nat.lt_of_le_of_lt (Nat.div_le_self _ _) hn)]
theorem wb_shl (n : Nat) {k : Nat} (hk : k < 64) : lN n <<< ((nI k).toInt64 &&& 63) = lN (n * 2 ^ k) := by
  rw [wb_c k hk]
  apply wb_inj
  rw [Int64.toBitVec_shiftLeft, wb_tb, wb_tb, wb_tb, wb_sm k hk]
  apply BitVec.eq_of_toNat_eq
  rw [BitVec.shiftLeft_eq', BitVec.toNat_shiftLeft, BitVec.toNat_ofNat, BitVec.toNat_ofNat, BitVec.toNat_ofNat, Nat.mod_eq_of_lt (show k < 2 ^ 64 by omega), Nat.shiftLeft_eq, Nat.mul_mod, Nat.mod_mod, ← Nat.mul_mod]
theorem wb_and {a b : Nat} (ha : a < 2 ^ 64) (hb : b < 2 ^ 64) : lN a &&& lN b = lN (a &&& b) := by
  apply wb_inj
  rw [Int64.toBitVec_and, wb_tb, wb_tb, wb_tb]
  apply BitVec.eq_of_toNat_eq
  rw [BitVec.toNat_and, BitVec.toNat_ofNat, BitVec.toNat_ofNat, BitVec.toNat_ofNat, Nat.mod_eq_of_lt ha, Nat.mod_eq_of_lt hb, Nat.mod_eq_of_lt (Nat.and_lt_two_pow _ hb)]
theorem wb_or {a b : Nat} (ha : a < 2 ^ 64) (hb : b < 2 ^ 64) : lN a ||| lN b = lN (a ||| b) := by
  apply wb_inj
  rw [Int64.toBitVec_or, wb_tb, wb_tb, wb_tb]
  apply BitVec.eq_of_toNat_eq
  rw [BitVec.toNat_or, BitVec.toNat_ofNat, BitVec.toNat_ofNat, BitVec.toNat_ofNat, Nat.mod_eq_of_lt ha, Nat.mod_eq_of_lt hb, Nat.mod_eq_of_lt (Nat.or_lt_two_pow ha hb)]
theorem wb_mask {n k : Nat} (hn : n < 2 ^ 64) (hk : k < 64) : lN n &&& lN (2 ^ k - 1) = lN (n % 2 ^ k) := by
  rw [wb_and hn (by have := wb_lt2 hk; omega), Nat.and_two_pow_sub_one_eq_mod]
theorem wb_a1 {n : Nat} (hn : n < 2 ^ 64) : lN n &&& 1 = lN (n % 2) := wb_mask (k := 1) hn (by decide)
theorem wb_bit {n k : Nat} (hn : n < 2 ^ 64) (hk : k < 64) : ((lN n).toUInt64 >>> ((nI k).toInt64.toUInt64 &&& Int64.toUInt64 63)).toInt64 &&& 1 = lN (n / 2 ^ k % 2) := by
  rw [wb_shr hn hk, wb_a1 (Nat.lt_of_le_of_lt (Nat.div_le_self _ _) hn)]
theorem wb_xor {q k : Nat} (hk : k < 63) (h : 2 ^ k ≤ q) (h2 : q < 2 ^ (k + 1)) : lN q ^^^ lN (2 ^ k) = lN (q - 2 ^ k) := by
  obtain ⟨r, rfl⟩ : ∃ r, q = 2 ^ k + r := ⟨q - 2 ^ k, by omega⟩
  have hr : r < 2 ^ k := by rw [Nat.pow_succ] at h2; omega
  have hx : (2 ^ k + r) ^^^ 2 ^ k = r := by
    apply Nat.eq_of_testBit_eq
    intro i
    rw [Nat.testBit_xor, Nat.testBit_two_pow]
    rcases Nat.lt_trichotomy i k with h | h | h
    · rw [Nat.testBit_two_pow_add_gt h]
      simp [show ¬ k = i by omega]
    · subst h
      rw [Nat.testBit_two_pow_add_eq]
      simp
    · have a1 : 2 ^ (k + 1) ≤ 2 ^ i := Nat.pow_le_pow_right (by decide) h
      rw [Nat.testBit_lt_two_pow (show 2 ^ k + r < 2 ^ i by omega), Nat.testBit_lt_two_pow (show r < 2 ^ i by omega)]
      simp [show ¬ k = i by omega]
  have b1 := wb_lt2 (show k + 1 < 64 by omega)
  have b2 := wb_lt2 (show k < 64 by omega)
  apply wb_inj
  rw [Int64.toBitVec_xor, wb_tb, wb_tb, wb_tb]
  apply BitVec.eq_of_toNat_eq
  rw [BitVec.toNat_xor, BitVec.toNat_ofNat, BitVec.toNat_ofNat, BitVec.toNat_ofNat, Nat.mod_eq_of_lt (by omega : 2 ^ k + r < 2 ^ 64), Nat.mod_eq_of_lt b2, hx, Nat.add_sub_cancel_left, Nat.mod_eq_of_lt (by omega)]
/-! ===== lN: masks, 'or' of parts that don't overlap is a sum ===== -/
theorem u_tn {n : Nat} (h : n < 2 ^ 64) : (UInt64.ofNat n).toNat = n := Nat.mod_eq_of_lt h
theorem g_and {a b c : Nat} (ha : a < 2 ^ 64) (hb : b < 2 ^ 64) (hc : a &&& b = c) : lN a &&& lN b = lN c := by
  subst hc
  have h : UInt64.ofNat a &&& UInt64.ofNat b = UInt64.ofNat (a &&& b) := UInt64.toNat_inj.mp (by rw [UInt64.toNat_and, u_tn ha, u_tn hb, u_tn (Nat.and_lt_two_pow a hb)])
  have h2 := congrArg UInt64.toInt64 h
  exact h2
theorem g_and1 {a : Nat} (ha : a < 2 ^ 64) : lN a &&& 1 = lN (a % 2) := g_and (b := 1) ha (by decide) (Nat.and_two_pow_sub_one_eq_mod a 1)
theorem g_mask {a s p : Nat} (hp : 2 ^ s = p) (hs : s < 64) (ha : a < 2 ^ 64) : lN a &&& lN (p - 1) = lN (a % p) := by
  subst hp
  have := Nat.pow_lt_pow_right (show 1 < 2 by decide) hs
  exact g_and ha (by omega) (Nat.and_two_pow_sub_one_eq_mod a s)
theorem g_or {k p a b : Nat} (hp : 2 ^ k = p) (ha : a < p) (h : b * p + a < 2 ^ 64) : lN (b * p) ||| lN a = lN (b * p + a) := by
  subst hp
  have h1 : b * 2 ^ k ||| a = b * 2 ^ k + a := by rw [← Nat.shiftLeft_eq, Nat.shiftLeft_add_eq_or_of_lt ha]
  have h3 : UInt64.ofNat (b * 2 ^ k) ||| UInt64.ofNat a = UInt64.ofNat (b * 2 ^ k + a) := UInt64.toNat_inj.mp (by rw [UInt64.toNat_or, u_tn (by omega), u_tn (by omega), u_tn h, h1])
  have h2 := congrArg UInt64.toInt64 h3
  exact h2
theorem g_or' {k p a b : Nat} (hp : 2 ^ k = p) (ha : a < p) (h : a + b * p < 2 ^ 64) : lN a ||| lN (b * p) = lN (a + b * p) := by
  rw [Int64.or_comm, g_or hp ha (by omega), Nat.add_comm]
theorem g_ushr {a k p : Nat} {y : UInt64} (hy : y = UInt64.ofNat k) (hk : k < 64) (hp : 2 ^ k = p) (ha : a < 2 ^ 64) : ((lN a).toUInt64 >>> y).toInt64 = lN (a / p) := by
  subst hy hp
  have h : UInt64.ofNat a >>> UInt64.ofNat k = UInt64.ofNat (a / 2 ^ k) := UInt64.toNat_inj.mp (by rw [UInt64.toNat_shiftRight, u_tn ha, u_tn (by omega), u_tn (Nat.lt_of_le_of_lt (Nat.div_le_self _ _) ha), Nat.mod_eq_of_lt hk, Nat.shiftRight_eq_div_pow])
  have h2 := congrArg UInt64.toInt64 h
  exact h2
theorem g_shl {a k p : Nat} {y : Int64} (hy : y.toBitVec.smod 64 = BitVec.ofNat 64 k) (hk : k < 64) (hp : 2 ^ k = p) (ha : a < 2 ^ 64) : lN a <<< y = lN (a * p) := by
  subst hp
  apply Int64.toBitVec_inj.mp
  rw [Int64.toBitVec_shiftLeft, hy]
  apply BitVec.eq_of_toNat_eq
  have hb : (lN a).toBitVec.toNat = a := Nat.mod_eq_of_lt ha
  have hk' : (BitVec.ofNat 64 k).toNat = k := Nat.mod_eq_of_lt (by omega)
  have h : ((lN a).toBitVec <<< BitVec.ofNat 64 k).toNat = (a * 2 ^ k) % 2 ^ 64 := by simp only [BitVec.shiftLeft_eq', BitVec.toNat_shiftLeft, hb, hk', Nat.shiftLeft_eq]
  exact h
/-! ===== lN to 2^62 under >> and >>> ===== -/
theorem pf_lI {a : Nat} (h : a < 2 ^ 63) : (lN a).toInt = (a : Int) := lg_ofNat_toInt h
theorem pf_shr {a d : Nat} {D : Int64} (hD : (D.toBitVec.smod 64).toNat = d) (h : a < 2 ^ 62) : lN a >>> D = lN (a / 2 ^ d) := by
  have hd : a / 2 ^ d ≤ a := Nat.div_le_self _ _
  apply Int64.toInt_inj.mp
  have e : (lN a >>> D).toInt = (lN a).toInt >>> d := by
    rw [← hD]
    exact BitVec.toInt_sshiftRight ..
  rw [e, Int.shiftRight_eq_div_pow, pf_lI (by omega), pf_lI (by omega)]
  rfl
theorem pf_ushr {a d : Nat} {D : UInt64} (hD : D.toNat % 64 = d) (h : a < 2 ^ 62) : ((lN a).toUInt64 >>> D).toInt64 = lN (a / 2 ^ d) := by
  have hd : a / 2 ^ d ≤ a := Nat.div_le_self _ _
  have e : (lN a).toUInt64 >>> D = UInt64.ofNat (a / 2 ^ d) := UInt64.toNat_inj.mp (by
    rw [UInt64.toNat_shiftRight, hD, Nat.shiftRight_eq_div_pow, UInt64.toNat_ofNat']
    show (UInt64.ofNat a).toNat / 2 ^ d = _
    rw [UInt64.toNat_ofNat', Nat.mod_eq_of_lt (by omega), Nat.mod_eq_of_lt (by omega)])
  rw [e]
  rfl
theorem pf_andw (x : Int64) : ∃ m, m < 2 ^ 32 ∧ x &&& 4294967295 = lN m := ⟨x.toBitVec.toNat % 2 ^ 32, Nat.mod_lt _ (by decide), Int64.toBitVec_inj.mp (BitVec.eq_of_toNat_eq (by
  show (x.toBitVec &&& 4294967295#64).toNat = (BitVec.ofNat 64 (x.toBitVec.toNat % 2 ^ 32)).toNat
  rw [BitVec.toNat_and, show (4294967295#64).toNat = 2 ^ 32 - 1 from by decide, Nat.and_two_pow_sub_one_eq_mod, BitVec.toNat_ofNat]
  omega))⟩
/-! ===== Int64 as an unsigned number: uN x ===== -/
def uN (x : Int64) : Nat := x.toUInt64.toNat
theorem uN_lt (x : Int64) : uN x < 18446744073709551616 := x.toUInt64.toNat_lt
theorem uN_inj {x y : Int64} (h : uN x = uN y) : x = y := congrArg UInt64.toInt64 (UInt64.toNat_inj.mp h)
theorem uN_add (x y : Int64) : uN (x + y) = (uN x + uN y) % 18446744073709551616 := by
  show (x.toUInt64 + y.toUInt64).toNat = _
  exact UInt64.toNat_add _ _
theorem uN_mul (x y : Int64) : uN (x * y) = (uN x * uN y) % 18446744073709551616 := by
  show (x.toUInt64 * y.toUInt64).toNat = _
  exact UInt64.toNat_mul _ _
theorem uN_shl (x : Int64) : uN (x <<< ((1 : Int32).toInt64 &&& 63)) = (2 * uN x) % 18446744073709551616 := by
  have h : (((1 : Int32).toInt64 &&& 63).toBitVec.smod 64).toNat = 1 := by decide
  show (x.toBitVec <<< (((1 : Int32).toInt64 &&& 63).toBitVec.smod 64).toNat).toNat = _
  rw [h, BitVec.toNat_shiftLeft, Nat.shiftLeft_eq, Nat.mul_comm]
  rfl
theorem uN_shr (x : Int64) (s : UInt64) : uN (x.toUInt64 >>> s).toInt64 = uN x / 2 ^ (s.toNat % 64) := by
  show (x.toUInt64 >>> s).toNat = _
  rw [UInt64.toNat_shiftRight, Nat.shiftRight_eq_div_pow]
  rfl
theorem uN_s32 (x : Int64) : uN (x.toUInt64 >>> ((32 : Int32).toInt64.toUInt64 &&& Int64.toUInt64 63)).toInt64 = uN x / 4294967296 := by
  have h : ((32 : Int32).toInt64.toUInt64 &&& Int64.toUInt64 63).toNat % 64 = 32 := by decide
  rw [uN_shr, h]
theorem uN_s63 (x : Int64) : uN (x.toUInt64 >>> ((63 : Int32).toInt64.toUInt64 &&& Int64.toUInt64 63)).toInt64 = uN x / 9223372036854775808 := by
  have h : ((63 : Int32).toInt64.toUInt64 &&& Int64.toUInt64 63).toNat % 64 = 63 := by decide
  rw [uN_shr, h]
theorem uN_lo (x : Int64) : uN (x &&& 4294967295) = uN x % 4294967296 := by
  show (x.toUInt64 &&& Int64.toUInt64 4294967295).toNat = _
  rw [UInt64.toNat_and]
  exact Nat.and_two_pow_sub_one_eq_mod _ 32
theorem uN_bit (x : Int64) : (x &&& 1) = 0 ↔ uN x % 2 = 0 := by
  have h : uN (x &&& 1) = uN x % 2 := by
    show (x.toUInt64 &&& Int64.toUInt64 1).toNat = _
    rw [UInt64.toNat_and]
    exact Nat.and_two_pow_sub_one_eq_mod _ 1
  rw [← h]
  exact ⟨fun z => by rw [z]; rfl, fun z => uN_inj (z.trans rfl)⟩
theorem uN_or {x y : Int64} (hy : uN y < 2) : uN ((x <<< ((1 : Int32).toInt64 &&& 63)) ||| y) = (2 * uN x) % 18446744073709551616 + uN y := by
  have h1 : uN ((x <<< ((1 : Int32).toInt64 &&& 63)) ||| y) = uN (x <<< ((1 : Int32).toInt64 &&& 63)) ||| uN y := UInt64.toNat_or _ _
  have h2 : (2 * uN x) % 18446744073709551616 = 2 ^ 1 * (uN x % 9223372036854775808) := by omega
  rw [h1, uN_shl, h2]
  exact (Nat.two_pow_add_eq_or_of_lt (i := 1) hy _).symm
theorem nat_xor {a : Nat} (h : a < 18446744073709551616) : a ^^^ 2 ^ 63 = (a + 9223372036854775808) % 18446744073709551616 := by
  have h1 : (a ^^^ 2 ^ 63) % 2 ^ 63 = a % 2 ^ 63 := by rw [Nat.xor_mod_two_pow, Nat.mod_self, Nat.xor_zero]
  have h2 : (a ^^^ 2 ^ 63) / 2 ^ 63 = (a / 2 ^ 63) ^^^ 1 := by rw [Nat.xor_div_two_pow, Nat.div_self (Nat.two_pow_pos 63)]
  have h3 : a / 2 ^ 63 = 0 ∨ a / 2 ^ 63 = 1 := by omega
  generalize a ^^^ 2 ^ 63 = t at h1 h2
  rcases h3 with h3 | h3
  · rw [h3] at h2
    have h2 : t / 2 ^ 63 = 1 := h2
    omega
  · rw [h3] at h2
    have h2 : t / 2 ^ 63 = 0 := h2
    omega
theorem uN_xor (x : Int64) : uN (x ^^^ (-9223372036854775808)) = (uN x + 9223372036854775808) % 18446744073709551616 := by
  rw [← nat_xor (uN_lt x)]
  exact UInt64.toNat_xor _ _
theorem uN_int (x : Int64) : x.toInt = if 2 * uN x < 18446744073709551616 then (uN x : Int) else (uN x : Int) - 18446744073709551616 := BitVec.toInt_eq_toNat_cond _
theorem uN_le (x y : Int64) : (x ^^^ (-9223372036854775808)) ≤ (y ^^^ (-9223372036854775808)) ↔ uN x ≤ uN y := by
  have hx := uN_lt x
  have hy := uN_lt y
  rw [Int64.le_iff_toInt_le, uN_int, uN_int, uN_xor, uN_xor]
  omega
theorem uN_sk (x : Int64) {k : Nat} (hk : k < 64) : uN (x.toUInt64 >>> ((nI k).toInt64.toUInt64 &&& Int64.toUInt64 63)).toInt64 = uN x / 2 ^ k := by
  have h : ((nI k).toInt64.toUInt64 &&& Int64.toUInt64 63).toNat % 64 = k := by
    rw [nI_l (by omega), UInt64.toNat_and]
    have e : (lN k).toUInt64.toNat = k % 2 ^ 64 := rfl
    have e2 : (Int64.toUInt64 63).toNat = 2 ^ 6 - 1 := by decide
    rw [e, e2, Nat.and_two_pow_sub_one_eq_mod]
    omega
  rw [uN_shr, h]
/-! ===== unsigned comparison by xor with the least ===== -/
theorem lN_bv (n : Nat) : (lN n).toBitVec = BitVec.ofNat 64 n := rfl
theorem lN_nat {n : Nat} (h : n < 2 ^ 64) : (lN n).toBitVec.toNat = n := by rw [lN_bv, BitVec.toNat_ofNat]; exact Nat.mod_eq_of_lt h
theorem lN_xor (a b : Nat) : lN a ^^^ lN b = lN (a ^^^ b) := by
  apply Int64.toBitVec_inj.mp; rw [Int64.toBitVec_xor, lN_bv, lN_bv, lN_bv]; apply BitVec.eq_of_getLsbD_eq; intro i hi; simp [BitVec.getLsbD_ofNat, Nat.testBit_xor, hi]
theorem lN_ti {m : Nat} (h : m < 2 ^ 64) : (lN m).toInt = if m < 2 ^ 63 then (m : Int) else (m : Int) - 2 ^ 64 := by
  have c := BitVec.toInt_eq_toNat_cond (lN m).toBitVec
  rw [lN_nat h] at c
  show (lN m).toBitVec.toInt = _
  rw [c]
  split <;> split <;> omega
theorem xor63 {x : Nat} (h : x < 2 ^ 63) : x ^^^ 2 ^ 63 = 2 ^ 63 + x := by
  apply Nat.eq_of_testBit_eq
  intro i
  rw [Nat.testBit_xor, Nat.testBit_two_pow]
  rcases Nat.lt_trichotomy i 63 with z | z | z
  · rw [Nat.testBit_two_pow_add_gt z, decide_eq_false (by omega)]; simp
  · subst z; rw [Nat.testBit_two_pow_add_eq]; simp
  · have hp : 2 ^ 64 ≤ 2 ^ i := Nat.pow_le_pow_right (by decide) z
    rw [Nat.testBit_lt_two_pow (show x < 2 ^ i by omega), Nat.testBit_lt_two_pow (show 2 ^ 63 + x < 2 ^ i by omega), decide_eq_false (by omega)]; rfl
theorem xorS {a : Nat} (h : a < 2 ^ 64) : (lN a ^^^ (-9223372036854775808)).toInt = (a : Int) - 2 ^ 63 := by
  rw [show (-9223372036854775808 : Int64) = lN (2 ^ 63) from by decide +kernel, lN_xor]
  rcases Nat.lt_or_ge a (2 ^ 63) with z | z
  · rw [xor63 z, lN_ti (by omega), if_neg (by omega)]; omega
  · obtain ⟨x, rfl⟩ : ∃ x, a = 2 ^ 63 + x := ⟨a - 2 ^ 63, by omega⟩
    rw [← xor63 (by omega), Nat.xor_assoc, Nat.xor_self, Nat.xor_zero, lN_ti (by omega), if_pos (by omega), xor63 (by omega)]; omega
theorem ultL {a b : Nat} (ha : a < 2 ^ 64) (hb : b < 2 ^ 64) : ((lN b ^^^ (-9223372036854775808)) ≤ (lN a ^^^ (-9223372036854775808))) ↔ b ≤ a := by
  rw [Int64.le_iff_toInt_le, xorS ha, xorS hb]; omega
/-! ===== Int64 masks of n low bits ===== -/
theorem cr_bits (W U M : BitVec 64) : ((W &&& U) &&& (U &&& (M ^^^ BitVec.allOnes 64))) = 0#64 ↔ (W &&& U) &&& M = W &&& U := by
  constructor
  · intro h
    apply BitVec.eq_of_getLsbD_eq
    intro i hi
    have e := congrArg (fun x => BitVec.getLsbD x i) h
    simp only [BitVec.getLsbD_and, BitVec.getLsbD_xor, BitVec.getLsbD_allOnes, BitVec.getLsbD_zero, hi, decide_true] at e ⊢
    revert e
    cases W.getLsbD i <;> cases U.getLsbD i <;> cases M.getLsbD i <;> decide
  · intro h
    apply BitVec.eq_of_getLsbD_eq
    intro i hi
    have e := congrArg (fun x => BitVec.getLsbD x i) h
    simp only [BitVec.getLsbD_and, BitVec.getLsbD_xor, BitVec.getLsbD_allOnes, BitVec.getLsbD_zero, hi, decide_true] at e ⊢
    revert e
    cases W.getLsbD i <;> cases U.getLsbD i <;> cases M.getLsbD i <;> decide
theorem cr_mask (w U m : Int64) (n : Nat) (hm : m.toBitVec.toNat = 2 ^ n - 1) : ((w &&& U) &&& (U &&& (m ^^^ (-1)))) = 0 ↔ (w &&& U).toBitVec.toNat < 2 ^ n := by
  have e0 : (-1 : Int64).toBitVec = BitVec.allOnes 64 := by decide
  have z0 : (0 : Int64).toBitVec = 0#64 := by decide
  rw [← Int64.toBitVec_inj, z0, Int64.toBitVec_and, Int64.toBitVec_and, Int64.toBitVec_and, Int64.toBitVec_xor, e0, cr_bits]
  generalize w.toBitVec &&& U.toBitVec = T
  rw [← BitVec.toNat_inj, BitVec.toNat_and, hm, Nat.and_two_pow_sub_one_eq_mod]
  constructor
  · intro h
    have t := Nat.mod_lt T.toNat (Nat.two_pow_pos n)
    rw [h] at t
    exact t
  · exact Nat.mod_eq_of_lt
theorem cr_shr (t : Int64) (x : UInt64) (n : Nat) (hx : x.toNat % 64 = n) : (t.toUInt64 >>> x).toInt64 = 0 ↔ t.toBitVec.toNat < 2 ^ n := by
  rw [← Int64.toBitVec_inj, ← BitVec.toNat_inj]
  show (t.toUInt64 >>> x).toNat = 0 ↔ t.toUInt64.toNat < 2 ^ n
  rw [UInt64.toNat_shiftRight, hx, Nat.shiftRight_eq_div_pow]
  constructor
  · intro h
    have d : t.toUInt64.toNat / 2 ^ n < 1 := by
      rw [h]
      decide
    have e := (Nat.div_lt_iff_lt_mul (Nat.two_pow_pos n)).mp d
    rw [Nat.one_mul] at e
    exact e
  · exact Nat.div_eq_of_lt
theorem cr_amt (s : Int64) : ∃ n, n < 64 ∧ s &&& 63 = lN n ∧ (s.toUInt64 &&& Int64.toUInt64 63).toNat % 64 = n := by
  have e : (s.toUInt64 &&& Int64.toUInt64 63).toNat = s.toUInt64.toNat % 2 ^ 6 := by
    rw [UInt64.toNat_and, show (Int64.toUInt64 63).toNat = 2 ^ 6 - 1 from by decide, Nat.and_two_pow_sub_one_eq_mod]
  refine ⟨s.toUInt64.toNat % 2 ^ 6, by omega, ?_, by omega⟩
  rw [← Int64.toBitVec_inj, ← BitVec.toNat_inj]
  show (s.toUInt64 &&& Int64.toUInt64 63).toNat = (BitVec.ofNat 64 (s.toUInt64.toNat % 2 ^ 6)).toNat
  rw [e, BitVec.toNat_ofNat]
  omega
end
section
/-! bits of masks (Int64), of tests and choices (Int32), of open (three bits a position) -/
def bi_L (m : Int64) (c : Nat) : Bool := m.toBitVec.getLsbD c
theorem bi_or (x y : Int64) (i : Nat) : bi_L (x ||| y) i = (bi_L x i || bi_L y i) := by unfold bi_L; rw [Int64.toBitVec_or, BitVec.getLsbD_or]
theorem bi_and (x y : Int64) (i : Nat) : bi_L (x &&& y) i = (bi_L x i && bi_L y i) := by unfold bi_L; rw [Int64.toBitVec_and, BitVec.getLsbD_and]
theorem bi_0 (i : Nat) : bi_L 0 i = false := by
  show (0#64).getLsbD i = false
  simp
theorem bi_big {x : Int64} {i : Nat} (h : 64 ≤ i) : bi_L x i = false := by unfold bi_L; exact BitVec.getLsbD_of_ge _ _ h
theorem bi_ext {x y : Int64} (h : ∀ i, i < 64 → bi_L x i = bi_L y i) : x = y := Int64.toBitVec_inj.mp (BitVec.eq_of_getLsbD_eq (fun i hi => h i hi))
theorem bi_eq0 {x : Int64} : x = 0 ↔ ∀ i, bi_L x i = false := by
  constructor
  · intro h i; rw [h]; exact bi_0 i
  · intro h; exact bi_ext (fun i _ => by rw [h i, bi_0])
theorem bi_sh : ∀ c, c < 64 → ((1 : Int64) <<< ((nI c).toInt64 &&& 63)).toBitVec = BitVec.twoPow 64 c := by decide +kernel
theorem bi_one {c : Nat} (hc : c < 64) (i : Nat) : bi_L ((1 : Int64) <<< ((nI c).toInt64 &&& 63)) i = decide (i = c) := by
  unfold bi_L
  rw [bi_sh c hc, BitVec.getLsbD_twoPow]
  by_cases h : i = c
  · subst h; simp [hc]
  · have h2 : c ≠ i := fun e => h e.symm
    simp [h, h2]
theorem bi_set {c : Nat} (hc : c < 64) (x : Int64) (i : Nat) : bi_L (x ||| ((1 : Int64) <<< ((nI c).toInt64 &&& 63))) i = (bi_L x i || decide (i = c)) := by rw [bi_or, bi_one hc]
theorem bi_m1 {i : Nat} (h : i < 64) : bi_L (-1) i = true := by
  show (-1 : Int64).toBitVec.getLsbD i = true
  rw [show (-1 : Int64).toBitVec = BitVec.allOnes 64 by decide, BitVec.getLsbD_allOnes]
  exact decide_eq_true h
theorem bi_xor (x y : Int64) (i : Nat) : bi_L (x ^^^ y) i = (bi_L x i ^^ bi_L y i) := by unfold bi_L; rw [Int64.toBitVec_xor, BitVec.getLsbD_xor]
theorem bi_clr {c : Nat} (hc : c < 64) (x : Int64) (i : Nat) : bi_L (x &&& (((1 : Int64) <<< ((nI c).toInt64 &&& 63)) ^^^ (-1))) i = (bi_L x i && !decide (i = c)) := by
  by_cases hi : i < 64
  · rw [bi_and, bi_xor, bi_one hc, bi_m1 hi]; simp
  · rw [bi_big (by omega), bi_big (by omega)]; simp
theorem bi_has {m : Int64} {c : Nat} (hc : c < 64) : ((m.toUInt64 >>> ((nI c).toInt64.toUInt64 &&& Int64.toUInt64 63)).toInt64 &&& 1) = 0 ↔ bi_L m c = false := by
  rw [wb_cu c hc]
  exact ts_bit hc (u_tn (by omega))
theorem bi_all : ∀ c, c < 64 → ∀ i, i < 64 → bi_L (((1 : Int64) <<< ((nI c).toInt64 &&& 63)) - 1) i = decide (i < c) := by decide +kernel
/-! Int32 -/
theorem bi_t1b : ∀ i, i < 32 → bt 1 i = decide (i = 0) := by decide +kernel
theorem bi_t7b : ∀ i, i < 32 → bt 7 i = decide (i < 3) := by decide +kernel
theorem bi_lcb : ∀ b : Bool, ∀ i, i < 32 → bt (if b then 1 else 0) i = (b && decide (i = 0)) := by decide +kernel
theorem bi_t1 (x : Int32) {p : Nat} (hp : p < 32) : ((x >>> (nI p &&& 31)) &&& 1) = (if bt x p then 1 else 0) := by
  apply b_ext
  intro i hi
  rw [b_and, b_sshr p hp x hi, bi_t1b i hi, bi_lcb _ i hi]
  by_cases h : i = 0
  · subst h; rw [Nat.add_zero, if_pos hp]
  · simp [h]
theorem bi_tand {x y : Int32} : (x &&& y) = 0 ↔ ∀ i, i < 32 → bt x i = true → bt y i = false := by
  constructor
  · intro h i hi hx
    have : bt (x &&& y) i = false := by rw [h]; exact b_0 i
    rw [b_and, hx] at this
    simpa using this
  · intro h
    apply b_ext
    intro i hi
    rw [b_and, b_0]
    cases hx : bt x i with
    | false => rfl
    | true => rw [h i hi hx]; rfl
theorem bi_t2b {p : Nat} (hp : p < 32) (i : Nat) : bt ((1 : Int32) <<< (nI p &&& 31)) i = decide (i = p) := by
  unfold bt
  rw [nf_sh p hp, BitVec.getLsbD_twoPow]
  by_cases h : i = p
  · subst h; simp [hp]
  · have h2 : p ≠ i := fun e => h e.symm
    simp [h, h2]
theorem bi_tset {p : Nat} (hp : p < 32) (x : Int32) (i : Nat) : bt (x ||| ((1 : Int32) <<< (nI p &&& 31))) i = (bt x i || decide (i = p)) := by rw [b_or, bi_t2b hp]
theorem bi_lowm : ∀ g, g < 31 → ∀ i, i < 32 → bt (((1 : Int32) <<< (nI g &&& 31)) - 1) i = decide (i < g) := by decide +kernel
theorem bi_next {g : Nat} (hg : g < 31) (x : Int32) {i : Nat} (hi : i < 32) : bt ((x &&& (((1 : Int32) <<< (nI g &&& 31)) - 1)) ||| ((1 : Int32) <<< (nI g &&& 31))) i = ((decide (i < g) && bt x i) || decide (i = g)) := by
  rw [bi_tset (by omega), b_and, bi_lowm g hg i hi, Bool.and_comm]
theorem bi_pos {x : Int32} (h : bt x 31 = false) : ¬ x < 0 := by
  rw [Int32.lt_iff_toInt_lt]
  have e : x.toInt = x.toBitVec.toInt := rfl
  have e2 : x.toBitVec.msb = false := h
  rw [e, BitVec.toInt_eq_toNat_of_msb e2, show (0 : Int32).toInt = 0 from by decide]
  omega
/-! open -/
def bi_ot (o : Int32) (p : Nat) : Int32 := ((o >>> ((3 * nI p) &&& 31)) &&& 7) - 1
def bi_tri (a b c : Bool) : Int32 := (if a then 1 else 0) + (if b then 2 else 0) + (if c then 4 else 0)
theorem bi_trib : ∀ a b c : Bool, ∀ i, i < 32 → bt (bi_tri a b c) i = (if i = 0 then a else if i = 1 then b else if i = 2 then c else false) := by decide +kernel
theorem bi_m3 (p : Nat) : (3 : Int32) * nI p = nI (3 * p) := pk_mul 3 p
theorem bi_f3 (o : Int32) {p : Nat} (hp : p ≤ 7) : (o >>> ((3 * nI p) &&& 31)) &&& 7 = bi_tri (bt o (3 * p)) (bt o (3 * p + 1)) (bt o (3 * p + 2)) := by
  rw [bi_m3]
  apply b_ext
  intro i hi
  rw [b_and, b_sshr (3 * p) (by omega) o hi, bi_t7b i hi, bi_trib _ _ _ i hi]
  by_cases h0 : i = 0
  · subst h0; rw [if_pos (by omega)]; simp
  · by_cases h1 : i = 1
    · subst h1; rw [if_pos (by omega)]; simp
    · by_cases h2 : i = 2
      · subst h2; rw [if_pos (by omega)]; simp
      · have : ¬ i < 3 := by omega
        simp [h0, h1, h2, this]
theorem bi_tri1 : ∀ a b c : Bool, bi_tri a b c - 1 = -1 ↔ (a = false ∧ b = false ∧ c = false) := by decide +kernel
theorem bi_tri0 : ∀ a b c : Bool, bi_tri a b c = 0 ↔ bi_tri a b c - 1 = -1 := by decide +kernel
theorem bi_ote (o : Int32) {p : Nat} (hp : p ≤ 7) : bi_ot o p = bi_tri (bt o (3 * p)) (bt o (3 * p + 1)) (bt o (3 * p + 2)) - 1 := by unfold bi_ot; rw [bi_f3 o hp]
theorem bi_ot0 (o : Int32) {p : Nat} (hp : p ≤ 7) : ((o >>> ((3 * nI p) &&& 31)) &&& 7) = 0 ↔ bi_ot o p = -1 := by
  rw [bi_ote o hp, bi_f3 o hp]; exact bi_tri0 _ _ _
theorem bi_otc {o o' : Int32} {p : Nat} (hp : p ≤ 7) (h : ∀ i, 3 * p ≤ i → i < 3 * p + 3 → bt o i = bt o' i) : bi_ot o p = bi_ot o' p := by
  rw [bi_ote o hp, bi_ote o' hp, h _ (by omega) (by omega), h _ (by omega) (by omega), h _ (by omega) (by omega)]
theorem bi_otn {o : Int32} {p : Nat} (hp : p ≤ 7) : bi_ot o p = -1 ↔ ∀ i, 3 * p ≤ i → i < 3 * p + 3 → bt o i = false := by
  rw [bi_ote o hp, bi_tri1]
  constructor
  · rintro ⟨a, b, c⟩ i h1 h2
    have : i = 3 * p ∨ i = 3 * p + 1 ∨ i = 3 * p + 2 := by omega
    rcases this with rfl | rfl | rfl
    · exact a
    · exact b
    · exact c
  · intro h
    exact ⟨h _ (by omega) (by omega), h _ (by omega) (by omega), h _ (by omega) (by omega)⟩
theorem bi_7sh {p : Nat} (hp : p ≤ 7) {i : Nat} (hi : i < 32) : bt ((7 : Int32) <<< ((3 * nI p) &&& 31)) i = decide (3 * p ≤ i ∧ i < 3 * p + 3) := by
  rw [bi_m3, b_shl (3 * p) (by omega) _ hi, bi_t7b (i - 3 * p) (by omega)]
  by_cases h : 3 * p ≤ i
  · by_cases h2 : i < 3 * p + 3
    · have h3 : i - 3 * p < 3 := by omega
      simp [h, h2, h3]
    · have h3 : ¬ i - 3 * p < 3 := by omega
      simp [h, h2, h3]
  · simp [h]
/-- close p -/
theorem bi_close (o : Int32) {p q : Nat} (hp : p ≤ 7) (hq : q ≤ 7) : bi_ot (o &&& (((7 : Int32) <<< ((3 * nI p) &&& 31)) ^^^ (-1))) q = if q = p then -1 else bi_ot o q := by
  by_cases e : q = p
  · rw [if_pos e]
    subst e
    rw [bi_otn hp]
    intro i h1 h2
    rw [b_and, b_xor, bi_7sh hp (by omega), b_m1 i (by omega)]
    simp [h1, h2]
  · rw [if_neg e]
    refine bi_otc hq (fun i h1 h2 => ?_)
    rw [b_and, b_xor, bi_7sh hp (by omega), b_m1 i (by omega)]
    have : ¬ (3 * p ≤ i ∧ i < 3 * p + 3) := by omega
    simp [this]
/-- keep p of o -/
theorem bi_merge (o s : Int32) {p q : Nat} (hp : p ≤ 7) (hq : q ≤ 7) (h : bi_ot s p = -1) : bi_ot (s ||| (o &&& ((7 : Int32) <<< ((3 * nI p) &&& 31)))) q = if q = p then bi_ot o p else bi_ot s q := by
  by_cases e : q = p
  · rw [if_pos e]
    subst e
    refine bi_otc hp (fun i h1 h2 => ?_)
    rw [b_or, b_and, bi_7sh hp (by omega), (bi_otn hp).mp h i h1 h2]
    simp [h1, h2]
  · rw [if_neg e]
    refine bi_otc hq (fun i h1 h2 => ?_)
    rw [b_or, b_and, bi_7sh hp (by omega)]
    have : ¬ (3 * p ≤ i ∧ i < 3 * p + 3) := by omega
    simp [this]
theorem bi_small : ∀ j, j < 6 → ∀ i, i < 32 → 3 ≤ i → bt (nI j) i = false := by decide +kernel
theorem bi_smallt : ∀ j, j < 6 → bi_tri (bt (nI j) 0) (bt (nI j) 1) (bt (nI j) 2) = nI j := by decide +kernel
/-- open k with type F -/
theorem bi_ins (o F : Int32) {k j q : Nat} {s : Int32} (hs : s = nI (3 * k)) (hk : k ≤ 7) (hq : q ≤ 7) (hj : j < 6) (hF : F + 1 = nI j) (h : bi_ot o k = -1) : bi_ot (o ||| ((F + 1) <<< (s &&& 31))) q = if q = k then F else bi_ot o q := by
  subst hs
  rw [hF]
  by_cases e : q = k
  · rw [if_pos e]
    subst e
    have h0 := (bi_otn hk).mp h
    have e1 : ∀ i, i < 3 → bt (o ||| (nI j <<< (nI (3 * q) &&& 31))) (3 * q + i) = bt (nI j) i := by
      intro i hi
      rw [b_or, h0 _ (by omega) (by omega), b_shl (3 * q) (by omega) _ (by omega), Nat.add_sub_cancel_left]
      simp
    have e0 := e1 0 (by omega)
    rw [Nat.add_zero] at e0
    rw [bi_ote _ hk, e0, e1 1 (by omega), e1 2 (by omega), bi_smallt j hj, ← hF]
    exact Int32.add_sub_cancel _ _
  · rw [if_neg e]
    refine bi_otc hq (fun i h1 h2 => ?_)
    rw [b_or, b_shl (3 * k) (by omega) _ (by omega)]
    by_cases z : 3 * k ≤ i
    · rw [bi_small j hj (i - 3 * k) (by omega) (by omega)]; simp
    · simp [z]
theorem bi_otz {q : Nat} (hq : q ≤ 7) : bi_ot 0 q = -1 := by
  rw [bi_otn hq]; intro i _ _; exact b_0 i
end
section
section
variable {cc : Nat} {K A P U O S cT C1 C2 : Nat → Int32}
/-! trees: the nodes of a row in preorder against a stack of holes; a hole is (position, type, parent, owner, side) -/
abbrev tr_H : Type := Nat × Int32 × Int32 × Int32 × Int32
def tr_kids (K A C1 C2 : Nat → Int32) (n p : Nat) (t : Int32) : List tr_H :=
  if K n = 3 then [(p, t, nI n, nI n, 0), (p, t, nI n, nI n, 1)]
  else if K n = 4 then [(p, t, nI n, -1, 0)]
  else if K n = 1 ∧ p ≤ 3 then
    (if C1 (A n).toNatClampNeg = -1 then []
     else if C2 (A n).toNatClampNeg = -1 then [(2 * p, C1 (A n).toNatClampNeg, nI n, -1, 0)]
     else [(2 * p, C1 (A n).toNatClampNeg, nI n, -1, 0), (2 * p + 1, C2 (A n).toNatClampNeg, nI n, -1, 0)])
  else []
def tr_ok (cc : Nat) (K A P U O S cT : Nat → Int32) (n : Nat) (h : tr_H) : Prop :=
  P n = nI h.1 ∧ U n = h.2.2.1 ∧ O n = h.2.2.2.1 ∧ S n = h.2.2.2.2 ∧ (K n = 0 ∨ K n = 1 ∨ K n = 2 ∨ K n = 3 ∨ K n = 4) ∧
  (K n = 1 → ∃ c, c < cc ∧ A n = nI c ∧ cT c = h.2.1) ∧ (K n = 2 → h.2.1 = 0) ∧ (K n = 4 → ∃ v, v < 4 ∧ A n = nI v)
def tr_Op (cc : Nat) (K A P U O S cT C1 C2 : Nat → Int32) : Nat → Nat → List tr_H → List tr_H → Prop
  | 0, _, s, s' => s' = s
  | d + 1, n, s, s' => ∃ h hs, s = h :: hs ∧ tr_ok cc K A P U O S cT n h ∧ tr_Op cc K A P U O S cT C1 C2 d (n + 1) (tr_kids K A C1 C2 n h.1 h.2.1 ++ hs) s'
theorem tr_snoc {h : tr_H} {hs : List tr_H} : ∀ (d n : Nat) (s : List tr_H), tr_Op cc K A P U O S cT C1 C2 d n s (h :: hs) → tr_ok cc K A P U O S cT (n + d) h →
    tr_Op cc K A P U O S cT C1 C2 (d + 1) n s (tr_kids K A C1 C2 (n + d) h.1 h.2.1 ++ hs) := by
  intro d
  induction d with
  | zero => intro n s h1 h2; exact ⟨h, hs, h1.symm, h2, rfl⟩
  | succ d ih =>
    intro n s h1 h2
    obtain ⟨g, gs, e, h3, h4⟩ := h1
    refine ⟨g, gs, e, h3, ?_⟩
    have := ih (n + 1) _ h4 (by rw [show n + 1 + d = n + (d + 1) by omega]; exact h2)
    rw [show n + 1 + d = n + (d + 1) by omega] at this
    exact this
theorem tr_congr {K' A' P' U' O' S' : Nat → Int32} : ∀ (d n : Nat) (s s' : List tr_H), tr_Op cc K A P U O S cT C1 C2 d n s s' →
    (∀ k, n ≤ k → k < n + d → K' k = K k ∧ A' k = A k ∧ P' k = P k ∧ U' k = U k ∧ O' k = O k ∧ S' k = S k) →
    tr_Op cc K' A' P' U' O' S' cT C1 C2 d n s s' := by
  intro d
  induction d with
  | zero => intro n s s' h _; exact h
  | succ d ih =>
    intro n s s' h hc
    obtain ⟨g, gs, e, h3, h4⟩ := h
    obtain ⟨e1, e2, e3, e4, e5, e6⟩ := hc n (Nat.le_refl _) (by omega)
    refine ⟨g, gs, e, ?_, ?_⟩
    · unfold tr_ok at h3 ⊢
      rw [e1, e2, e3, e4, e5, e6]; exact h3
    · have e7 : tr_kids K' A' C1 C2 n g.1 g.2.1 = tr_kids K A C1 C2 n g.1 g.2.1 := by unfold tr_kids; rw [e1, e2]
      rw [e7]
      exact ih (n + 1) _ _ h4 (fun k h5 h6 => hc k (by omega) (by omega))
theorem tr_split {s2 : List tr_H} : ∀ (d n : Nat) (s1 : List tr_H), tr_Op cc K A P U O S cT C1 C2 d n (s1 ++ s2) [] →
    ∃ d1 d2, d = d1 + d2 ∧ tr_Op cc K A P U O S cT C1 C2 d1 n s1 [] ∧ tr_Op cc K A P U O S cT C1 C2 d2 (n + d1) s2 [] := by
  intro d
  induction d with
  | zero =>
    intro n s1 h
    have h' : s1 ++ s2 = [] := h.symm
    obtain ⟨e1, e2⟩ := List.append_eq_nil_iff.mp h'
    exact ⟨0, 0, rfl, e1.symm, e2.symm⟩
  | succ d ih =>
    intro n s1 h
    cases s1 with
    | nil => exact ⟨0, d + 1, by omega, rfl, h⟩
    | cons a s1 =>
      obtain ⟨g, gs, e, h3, h4⟩ := h
      have e' : a :: (s1 ++ s2) = g :: gs := e
      obtain ⟨rfl, rfl⟩ := List.cons.inj e'
      rw [← List.append_assoc] at h4
      obtain ⟨d1, d2, e1, h5, h6⟩ := ih (n + 1) _ h4
      exact ⟨d1 + 1, d2, by omega, ⟨a, s1, rfl, h3, h5⟩, by rw [show n + (d1 + 1) = n + 1 + d1 by omega]; exact h6⟩
theorem tr_root {d n : Nat} {h : tr_H} (H : tr_Op cc K A P U O S cT C1 C2 d n [h] []) : ∃ d', d = d' + 1 ∧ tr_ok cc K A P U O S cT n h ∧ tr_Op cc K A P U O S cT C1 C2 d' (n + 1) (tr_kids K A C1 C2 n h.1 h.2.1) [] := by
  cases d with
  | zero => exact absurd (show ([] : List tr_H) = [h] from H) (by simp)
  | succ d =>
    obtain ⟨g, gs, e, h3, h4⟩ := H
    obtain ⟨rfl, rfl⟩ := List.cons.inj e
    rw [List.append_nil] at h4
    exact ⟨d, rfl, h3, h4⟩
/-- the cases of a subtree -/
theorem tr_cases {d n : Nat} {h : tr_H} (H : tr_Op cc K A P U O S cT C1 C2 d n [h] []) : tr_ok cc K A P U O S cT n h ∧
    ((K n = 3 ∧ ∃ d1 d2, d = d1 + d2 + 1 ∧ tr_Op cc K A P U O S cT C1 C2 d1 (n + 1) [(h.1, h.2.1, nI n, nI n, 0)] [] ∧ tr_Op cc K A P U O S cT C1 C2 d2 (n + 1 + d1) [(h.1, h.2.1, nI n, nI n, 1)] []) ∨
     (K n = 4 ∧ ∃ d1, d = d1 + 1 ∧ tr_Op cc K A P U O S cT C1 C2 d1 (n + 1) [(h.1, h.2.1, nI n, -1, 0)] []) ∨
     (K n = 1 ∧ h.1 ≤ 3 ∧ ¬ C1 (A n).toNatClampNeg = -1 ∧ C2 (A n).toNatClampNeg = -1 ∧ ∃ d1, d = d1 + 1 ∧ tr_Op cc K A P U O S cT C1 C2 d1 (n + 1) [(2 * h.1, C1 (A n).toNatClampNeg, nI n, -1, 0)] []) ∨
     (K n = 1 ∧ h.1 ≤ 3 ∧ ¬ C1 (A n).toNatClampNeg = -1 ∧ ¬ C2 (A n).toNatClampNeg = -1 ∧ ∃ d1 d2, d = d1 + d2 + 1 ∧ tr_Op cc K A P U O S cT C1 C2 d1 (n + 1) [(2 * h.1, C1 (A n).toNatClampNeg, nI n, -1, 0)] [] ∧ tr_Op cc K A P U O S cT C1 C2 d2 (n + 1 + d1) [(2 * h.1 + 1, C2 (A n).toNatClampNeg, nI n, -1, 0)] []) ∨
     (K n ≠ 3 ∧ K n ≠ 4 ∧ (K n = 1 → h.1 ≤ 3 → C1 (A n).toNatClampNeg = -1) ∧ d = 1)) := by
  obtain ⟨d', rfl, h3, h4⟩ := tr_root H
  refine ⟨h3, ?_⟩
  unfold tr_kids at h4
  split at h4
  · rename_i k3
    obtain ⟨d1, d2, e, h5, h6⟩ := tr_split (s2 := [(h.1, h.2.1, nI n, nI n, 1)]) d' (n + 1) [(h.1, h.2.1, nI n, nI n, 0)] h4
    exact Or.inl ⟨k3, d1, d2, by omega, h5, h6⟩
  · rename_i k3
    split at h4
    · rename_i k4
      exact Or.inr (Or.inl ⟨k4, d', rfl, h4⟩)
    · rename_i k4
      split at h4
      · rename_i k1
        split at h4
        · rename_i kc
          have hd : d' = 0 := by
            cases d' with
            | zero => rfl
            | succ d' => obtain ⟨_, _, e, _⟩ := h4; exact absurd e (by simp)
          subst hd
          exact Or.inr (Or.inr (Or.inr (Or.inr ⟨k3, k4, fun _ _ => kc, rfl⟩)))
        · rename_i kc
          split at h4
          · rename_i kd
            exact Or.inr (Or.inr (Or.inl ⟨k1.1, k1.2, kc, kd, d', rfl, h4⟩))
          · rename_i kd
            obtain ⟨d1, d2, e, h5, h6⟩ := tr_split (s2 := [(2 * h.1 + 1, C2 (A n).toNatClampNeg, nI n, -1, 0)]) d' (n + 1) [(2 * h.1, C1 (A n).toNatClampNeg, nI n, -1, 0)] h4
            exact Or.inr (Or.inr (Or.inr (Or.inl ⟨k1.1, k1.2, kc, kd, d1, d2, by omega, h5, h6⟩)))
      · rename_i k1
        have hd : d' = 0 := by
          cases d' with
          | zero => rfl
          | succ d' => obtain ⟨_, _, e, _⟩ := h4; exact absurd e (by simp)
        subst hd
        exact Or.inr (Or.inr (Or.inr (Or.inr ⟨k3, k4, fun a b => absurd ⟨a, b⟩ k1, rfl⟩)))
/-- the children of a node as subtrees: none, one or two -/
theorem tr_kid3 {d n : Nat} {h : tr_H} (H : tr_Op cc K A P U O S cT C1 C2 d n [h] []) : d = 1 ∨ (∃ d1 g, d = d1 + 1 ∧ g ∈ tr_kids K A C1 C2 n h.1 h.2.1 ∧ g.2.2.1 = nI n ∧ tr_Op cc K A P U O S cT C1 C2 d1 (n + 1) [g] []) ∨
    (∃ d1 d2 g1 g2, d = d1 + d2 + 1 ∧ g1 ∈ tr_kids K A C1 C2 n h.1 h.2.1 ∧ g2 ∈ tr_kids K A C1 C2 n h.1 h.2.1 ∧ g1.2.2.1 = nI n ∧ g2.2.2.1 = nI n ∧ tr_Op cc K A P U O S cT C1 C2 d1 (n + 1) [g1] [] ∧ tr_Op cc K A P U O S cT C1 C2 d2 (n + 1 + d1) [g2] []) := by
  obtain ⟨_, hc⟩ := tr_cases H
  rcases hc with ⟨k, d1, d2, e, h5, h6⟩ | ⟨k, d1, e, h5⟩ | ⟨k, kp, ka, kb, d1, e, h5⟩ | ⟨k, kp, ka, kb, d1, d2, e, h5, h6⟩ | ⟨_, _, _, e⟩
  · refine Or.inr (Or.inr ⟨d1, d2, _, _, e, ?_, ?_, rfl, rfl, h5, h6⟩) <;> simp [tr_kids, k]
  · refine Or.inr (Or.inl ⟨d1, _, e, ?_, rfl, h5⟩); simp [tr_kids, k]
  · refine Or.inr (Or.inl ⟨d1, _, e, ?_, rfl, h5⟩); simp [tr_kids, k, kp, ka, kb]
  · refine Or.inr (Or.inr ⟨d1, d2, _, _, e, ?_, ?_, rfl, rfl, h5, h6⟩) <;> simp [tr_kids, k, kp, ka, kb]
  · exact Or.inl e
theorem tr_pos {d n : Nat} {h : tr_H} (H : tr_Op cc K A P U O S cT C1 C2 d n [h] []) : 0 < d := by
  obtain ⟨d', e, _⟩ := tr_root H; omega
/-- parents lie in the subtree -/
theorem tr_up : ∀ (d n : Nat) (h : tr_H), tr_Op cc K A P U O S cT C1 C2 d n [h] [] → ∀ k, n < k → k < n + d → ∃ u, n ≤ u ∧ u < k ∧ U k = nI u := by
  intro d
  induction d using Nat.strongRecOn with
  | _ d ih =>
    intro n h H k hk1 hk2
    rcases tr_kid3 H with e | ⟨d1, g, e, _, hg, h5⟩ | ⟨d1, d2, g1, g2, e, _, _, hg1, hg2, h5, h6⟩
    · omega
    · by_cases q : k = n + 1
      · subst q; exact ⟨n, Nat.le_refl _, by omega, ((tr_cases h5).1.2.1).trans hg⟩
      · obtain ⟨u, a, b, c⟩ := ih d1 (by omega) (n + 1) g h5 k (by omega) (by omega)
        exact ⟨u, by omega, b, c⟩
    · by_cases q : k = n + 1
      · subst q; exact ⟨n, Nat.le_refl _, by omega, ((tr_cases h5).1.2.1).trans hg1⟩
      · by_cases q2 : k < n + 1 + d1
        · obtain ⟨u, a, b, c⟩ := ih d1 (by omega) (n + 1) g1 h5 k (by omega) (by omega)
          exact ⟨u, by omega, b, c⟩
        · by_cases q3 : k = n + 1 + d1
          · subst q3; exact ⟨n, Nat.le_refl _, by omega, ((tr_cases h6).1.2.1).trans hg2⟩
          · obtain ⟨u, a, b, c⟩ := ih d2 (by omega) (n + 1 + d1) g2 h6 k (by omega) (by omega)
            exact ⟨u, by omega, b, c⟩
/-- every node of a row is the root of a subtree -/
theorem tr_sub : ∀ (d n : Nat) (s : List tr_H), tr_Op cc K A P U O S cT C1 C2 d n s [] → ∀ k, n ≤ k → k < n + d → ∃ dk hk, tr_Op cc K A P U O S cT C1 C2 dk k [hk] [] ∧ k + dk ≤ n + d := by
  intro d
  induction d with
  | zero => intro n s H k h1 h2; omega
  | succ d ih =>
    intro n s H k h1 h2
    by_cases q : k = n
    · subst q
      obtain ⟨g, gs, e, h3, h4⟩ := H
      have : tr_Op cc K A P U O S cT C1 C2 (d + 1) k ([g] ++ gs) [] := ⟨g, gs, rfl, h3, h4⟩
      obtain ⟨d1, d2, e1, h5, h6⟩ := tr_split _ _ _ this
      exact ⟨d1, g, h5, by omega⟩
    · obtain ⟨g, gs, e, h3, h4⟩ := H
      obtain ⟨dk, hk, a, b⟩ := ih (n + 1) _ h4 k (by omega) (by omega)
      exact ⟨dk, hk, a, by omega⟩
/-- a hole for each node -/
theorem tr_holes : ∀ (d n : Nat) (s s' : List tr_H), tr_Op cc K A P U O S cT C1 C2 d n s s' → ∃ hl : Nat → tr_H, ∀ k, n ≤ k → k < n + d →
    tr_ok cc K A P U O S cT k (hl k) ∧ (hl k ∈ s ∨ ∃ u, n ≤ u ∧ u < k ∧ hl k ∈ tr_kids K A C1 C2 u (hl u).1 (hl u).2.1) := by
  intro d
  induction d with
  | zero => intro n s s' _; exact ⟨fun _ => (0, 0, 0, 0, 0), fun k h1 h2 => by omega⟩
  | succ d ih =>
    intro n s s' H
    obtain ⟨g, gs, e, h3, h4⟩ := H
    obtain ⟨hl, h5⟩ := ih (n + 1) _ _ h4
    refine ⟨fun k => if k = n then g else hl k, fun k k1 k2 => ?_⟩
    by_cases q : k = n
    · subst q
      simp only [if_true]
      exact ⟨h3, Or.inl (by rw [e]; exact List.mem_cons_self ..)⟩
    · simp only [if_neg q]
      obtain ⟨a, b⟩ := h5 k (by omega) (by omega)
      refine ⟨a, ?_⟩
      rcases b with b | ⟨u, u1, u2, u3⟩
      · rcases List.mem_append.mp b with b | b
        · exact Or.inr ⟨n, Nat.le_refl _, by omega, by simp only [if_true]; exact b⟩
        · exact Or.inl (by rw [e]; exact List.mem_cons_of_mem _ b)
      · exact Or.inr ⟨u, by omega, u2, by rw [if_neg (by omega)]; exact u3⟩
theorem tr_kidup {u p : Nat} {t : Int32} {g : tr_H} (h : g ∈ tr_kids K A C1 C2 u p t) : g.2.2.1 = nI u := by
  unfold tr_kids at h
  split at h
  · simp at h; rcases h with rfl | rfl <;> rfl
  · split at h
    · simp at h; rw [h]
    · split at h
      · split at h
        · simp at h
        · split at h
          · simp at h; rw [h]
          · simp at h; rcases h with rfl | rfl <;> rfl
      · simp at h
def tr_dsc (p q : Nat) : Prop := q = p ∨ q / 2 = p ∨ q / 4 = p
theorem tr_kidpos {u p : Nat} {t : Int32} {g : tr_H} (h : g ∈ tr_kids K A C1 C2 u p t) : (g.1 = p ∧ g.2.1 = t ∧ (K u = 3 ∨ K u = 4)) ∨
    (K u = 1 ∧ p ≤ 3 ∧ g.1 / 2 = p ∧ g.2.1 = (if g.1 % 2 = 0 then C1 (A u).toNatClampNeg else C2 (A u).toNatClampNeg) ∧ ¬ g.2.1 = -1) := by
  unfold tr_kids at h
  split at h
  · rename_i k; simp at h; rcases h with rfl | rfl <;> exact Or.inl ⟨rfl, rfl, Or.inl k⟩
  · split at h
    · rename_i k; simp at h; rw [h]; exact Or.inl ⟨rfl, rfl, Or.inr k⟩
    · split at h
      · rename_i k1
        split at h
        · simp at h
        · rename_i ka
          split at h
          · simp at h; subst h; exact Or.inr ⟨k1.1, k1.2, by show 2 * p / 2 = p; omega, by show _ = if 2 * p % 2 = 0 then _ else _; rw [if_pos (by omega)], ka⟩
          · rename_i kb
            simp at h; rcases h with rfl | rfl
            · exact Or.inr ⟨k1.1, k1.2, by show 2 * p / 2 = p; omega, by show _ = if 2 * p % 2 = 0 then _ else _; rw [if_pos (by omega)], ka⟩
            · exact Or.inr ⟨k1.1, k1.2, by show (2 * p + 1) / 2 = p; omega, by show _ = if (2 * p + 1) % 2 = 0 then _ else _; rw [if_neg (by omega)], kb⟩
      · simp at h
/-- positions in a subtree -/
theorem tr_where : ∀ (d n : Nat) (h : tr_H), tr_Op cc K A P U O S cT C1 C2 d n [h] [] → 1 ≤ h.1 → h.1 ≤ 7 → ∀ k, n ≤ k → k < n + d → ∃ q, P k = nI q ∧ 1 ≤ q ∧ q ≤ 7 ∧ tr_dsc h.1 q := by
  intro d
  induction d using Nat.strongRecOn with
  | _ d ih =>
    intro n h H p1 p7 k hk1 hk2
    by_cases q : k = n
    · subst q; exact ⟨h.1, (tr_cases H).1.1, p1, p7, Or.inl rfl⟩
    have key : ∀ d1 m g, d1 < d → g ∈ tr_kids K A C1 C2 n h.1 h.2.1 → tr_Op cc K A P U O S cT C1 C2 d1 m [g] [] → m ≤ k → k < m + d1 → ∃ q, P k = nI q ∧ 1 ≤ q ∧ q ≤ 7 ∧ tr_dsc h.1 q := by
      intro d1 m g hd hg hS m1 m2
      rcases tr_kidpos hg with ⟨e1, _, _⟩ | ⟨_, e1, e2, _⟩
      · obtain ⟨x, x1, x2, x3, x4⟩ := ih d1 hd m g hS (by omega) (by omega) k m1 m2
        exact ⟨x, x1, x2, x3, e1 ▸ x4⟩
      · obtain ⟨x, x1, x2, x3, x4⟩ := ih d1 hd m g hS (by omega) (by omega) k m1 m2
        refine ⟨x, x1, x2, x3, ?_⟩
        unfold tr_dsc at x4 ⊢
        rcases x4 with x4 | x4 | x4
        · right; left; omega
        · right; right; omega
        · omega
    rcases tr_kid3 H with e | ⟨d1, g, e, hm, hg, h5⟩ | ⟨d1, d2, g1, g2, e, hm1, hm2, hg1, hg2, h5, h6⟩
    · omega
    · exact key d1 (n + 1) g (by omega) hm h5 (by omega) (by omega)
    · by_cases q2 : k < n + 1 + d1
      · exact key d1 (n + 1) g1 (by omega) hm1 h5 (by omega) q2
      · exact key d2 (n + 1 + d1) g2 (by omega) hm2 h6 (by omega) (by omega)
/-- the children of an OR -/
theorem tr_or : ∀ (d n : Nat) (h : tr_H), tr_Op cc K A P U O S cT C1 C2 d n [h] [] → n + d < 2 ^ 31 → ∀ u, n ≤ u → u < n + d → K u = 3 →
    ∃ m, u + 1 < m ∧ m < n + d ∧ U (u + 1) = nI u ∧ O (u + 1) = nI u ∧ S (u + 1) = 0 ∧ U m = nI u ∧ O m = nI u ∧ S m = 1 ∧ ∀ k, n < k → k < n + d → U k = nI u → k = u + 1 ∨ k = m := by
  intro d
  induction d using Nat.strongRecOn with
  | _ d ih =>
    intro n h H hb u hu1 hu2 hK
    rcases tr_kid3 H with e | ⟨d1, g, e, hm, hg, h5⟩ | ⟨d1, d2, g1, g2, e, hm1, hm2, hg1, hg2, h5, h6⟩
    · have : u = n := by omega
      subst this
      rcases tr_cases H with ⟨_, ⟨_, d1, d2, e', h5, h6⟩ | ⟨k, _⟩ | ⟨k, _⟩ | ⟨k, _⟩ | ⟨k, _⟩⟩
      · have := tr_pos h5; omega
      · rw [hK] at k; exact absurd k (by decide)
      · rw [hK] at k; exact absurd k (by decide)
      · rw [hK] at k; exact absurd k (by decide)
      · exact absurd hK k
    · by_cases q : u = n
      · subst q
        rcases tr_cases H with ⟨_, ⟨_, d1', d2', e', h5', h6'⟩ | ⟨k, _⟩ | ⟨k, _⟩ | ⟨k, _⟩ | ⟨k, _⟩⟩
        · have a1 := tr_pos h5'
          have a2 := tr_pos h6'
          have r1 := (tr_cases h5').1
          have r2 := (tr_cases h6').1
          refine ⟨u + 1 + d1', by omega, by omega, r1.2.1, r1.2.2.1, r1.2.2.2.1, r2.2.1, r2.2.2.1, r2.2.2.2.1, fun k k1 k2 k3 => ?_⟩
          by_cases z1 : k = u + 1
          · exact Or.inl z1
          · by_cases z2 : k = u + 1 + d1'
            · exact Or.inr z2
            · exfalso
              by_cases z3 : k < u + 1 + d1'
              · obtain ⟨w, w1, w2, w3⟩ := tr_up _ _ _ h5' k (by omega) (by omega)
                have := (nI_eq (by omega) (by omega)).mp (w3.symm.trans k3); omega
              · obtain ⟨w, w1, w2, w3⟩ := tr_up _ _ _ h6' k (by omega) (by omega)
                have := (nI_eq (by omega) (by omega)).mp (w3.symm.trans k3); omega
        · rw [hK] at k; exact absurd k (by decide)
        · rw [hK] at k; exact absurd k (by decide)
        · rw [hK] at k; exact absurd k (by decide)
        · exact absurd hK k
      · obtain ⟨m, m1, m2, m3, m4, m5, m6, m7, m8, m9⟩ := ih d1 (by omega) (n + 1) g h5 (by omega) u (by omega) (by omega) hK
        refine ⟨m, m1, by omega, m3, m4, m5, m6, m7, m8, fun k k1 k2 k3 => ?_⟩
        by_cases z : k = n + 1
        · subst z
          have := (nI_eq (by omega) (by omega)).mp (((tr_cases h5).1.2.1.trans hg).symm.trans k3); omega
        · exact m9 k (by omega) (by omega) k3
    · by_cases q : u = n
      · subst q
        rcases tr_cases H with ⟨_, ⟨_, d1', d2', e', h5', h6'⟩ | ⟨k, _⟩ | ⟨k, _⟩ | ⟨k, _⟩ | ⟨k, _⟩⟩
        · have a1 := tr_pos h5'
          have a2 := tr_pos h6'
          have r1 := (tr_cases h5').1
          have r2 := (tr_cases h6').1
          refine ⟨u + 1 + d1', by omega, by omega, r1.2.1, r1.2.2.1, r1.2.2.2.1, r2.2.1, r2.2.2.1, r2.2.2.2.1, fun k k1 k2 k3 => ?_⟩
          by_cases z1 : k = u + 1
          · exact Or.inl z1
          · by_cases z2 : k = u + 1 + d1'
            · exact Or.inr z2
            · exfalso
              by_cases z3 : k < u + 1 + d1'
              · obtain ⟨w, w1, w2, w3⟩ := tr_up _ _ _ h5' k (by omega) (by omega)
                have := (nI_eq (by omega) (by omega)).mp (w3.symm.trans k3); omega
              · obtain ⟨w, w1, w2, w3⟩ := tr_up _ _ _ h6' k (by omega) (by omega)
                have := (nI_eq (by omega) (by omega)).mp (w3.symm.trans k3); omega
        · rw [hK] at k; exact absurd k (by decide)
        · rw [hK] at k; exact absurd k (by decide)
        · rw [hK] at k; exact absurd k (by decide)
        · exact absurd hK k
      · by_cases q2 : u < n + 1 + d1
        · obtain ⟨m, m1, m2, m3, m4, m5, m6, m7, m8, m9⟩ := ih d1 (by omega) (n + 1) g1 h5 (by omega) u (by omega) (by omega) hK
          refine ⟨m, m1, by omega, m3, m4, m5, m6, m7, m8, fun k k1 k2 k3 => ?_⟩
          by_cases z : k = n + 1
          · subst z
            have := (nI_eq (by omega) (by omega)).mp (((tr_cases h5).1.2.1.trans hg1).symm.trans k3); omega
          · by_cases z2 : k < n + 1 + d1
            · exact m9 k (by omega) (by omega) k3
            · by_cases z3 : k = n + 1 + d1
              · subst z3
                have := (nI_eq (by omega) (by omega)).mp (((tr_cases h6).1.2.1.trans hg2).symm.trans k3); omega
              · obtain ⟨w, w1, w2, w3⟩ := tr_up _ _ _ h6 k (by omega) (by omega)
                have := (nI_eq (by omega) (by omega)).mp (w3.symm.trans k3); omega
        · obtain ⟨m, m1, m2, m3, m4, m5, m6, m7, m8, m9⟩ := ih d2 (by omega) (n + 1 + d1) g2 h6 (by omega) u (by omega) (by omega) hK
          refine ⟨m, m1, by omega, m3, m4, m5, m6, m7, m8, fun k k1 k2 k3 => ?_⟩
          by_cases z2 : k < n + 1 + d1
          · by_cases z : k = n + 1
            · subst z
              have := (nI_eq (by omega) (by omega)).mp (((tr_cases h5).1.2.1.trans hg1).symm.trans k3); omega
            · obtain ⟨w, w1, w2, w3⟩ := tr_up _ _ _ h5 k (by omega) (by omega)
              have := (nI_eq (by omega) (by omega)).mp (w3.symm.trans k3); omega
          · by_cases z3 : k = n + 1 + d1
            · subst z3
              have := (nI_eq (by omega) (by omega)).mp (((tr_cases h6).1.2.1.trans hg2).symm.trans k3); omega
            · exact m9 k (by omega) (by omega) k3
end
end
section
section
variable {cc : Nat} {K A P U O S cT C1 C2 : Nat → Int32}
/-! choices: which nodes are live under a choice; the order of the choices; the reference's parts -/
def lc_b (b : Bool) : Int32 := if b then 1 else 0
theorem lc_b0 {b : Bool} (h : (0 : Int32) = lc_b b) : b = false := by cases b <;> revert h <;> decide
theorem lc_b1 {b : Bool} (h : (1 : Int32) = lc_b b) : b = true := by cases b <;> revert h <;> decide
noncomputable def lc_d (p : Prop) : Bool := @decide p (Classical.propDecidable p)
theorem lc_dt {p : Prop} : lc_d p = true ↔ p := by unfold lc_d; exact @decide_eq_true_iff p (Classical.propDecidable p)
theorem lc_df {p : Prop} : lc_d p = false ↔ ¬ p := by unfold lc_d; exact @decide_eq_false_iff_not p (Classical.propDecidable p)
def lc_Lv (K U S : Nat → Int32) (ch : Nat → Bool) (L : Nat → Prop) (f e : Nat) : Prop :=
  L f ∧ ∀ k, f < k → k < e → (L k ↔ L (U k).toNatClampNeg ∧ (K (U k).toNatClampNeg = 3 → S k = lc_b (ch (U k).toNatClampNeg)))
theorem lc_root {ch : Nat → Bool} {L : Nat → Prop} {f e d n : Nat} {h : tr_H} (hL : lc_Lv K U S ch L f e) (H : tr_Op cc K A P U O S cT C1 C2 d n [h] []) (h1 : f ≤ n) (h2 : n + d ≤ e) (h3 : e < 2 ^ 31) : ∀ k, n ≤ k → k < n + d → L k → L n := by
  intro k
  induction k using Nat.strongRecOn with
  | _ k ih =>
    intro k1 k2 hk
    by_cases q : k = n
    · exact q ▸ hk
    · obtain ⟨u, u1, u2, u3⟩ := tr_up _ _ _ H k (by omega) k2
      have := ((hL.2 k (by omega) (by omega)).mp hk).1
      rw [u3, nI_clamp (by omega)] at this
      exact ih u u2 u1 (by omega) this
def lc_G (d : Nat) : Nat := [0, 1, 1, 2, 2, 3, 3, 4, 4, 6, 6, 9, 9, 12, 12, 18, 18].getD d 0
theorem lc_Gt0 : ∀ a b : Fin 17, (a.val + b.val + 1 < 17 ∧ 0 < a.val ∧ 0 < b.val) → (lc_G a.val + lc_G b.val ≤ lc_G (a.val + b.val + 1) ∧ lc_G a.val * lc_G b.val ≤ lc_G (a.val + b.val + 1)) := by decide +kernel
theorem lc_Gt (a : Nat) (ha : a < 17) (b : Nat) (hb : b < 17) (h : a + b + 1 < 17) (h1 : 0 < a) (h2 : 0 < b) : lc_G a + lc_G b ≤ lc_G (a + b + 1) ∧ lc_G a * lc_G b ≤ lc_G (a + b + 1) := lc_Gt0 ⟨a, ha⟩ ⟨b, hb⟩ ⟨h, h1, h2⟩
theorem lc_G1 : ∀ a, a < 16 → lc_G a ≤ lc_G (a + 1) := by decide +kernel
theorem lc_G6 : ∀ a, a < 17 → 5 * lc_G a ≤ 6 * a ∧ lc_G a < 19 := by decide +kernel
theorem lc_rank : ∀ (d n : Nat) (h : tr_H), tr_Op cc K A P U O S cT C1 C2 d n [h] [] → d ≤ 16 → n + d < 2 ^ 31 → ∃ (rk : (Nat → Bool) → Nat) (ct : Nat), ct ≤ lc_G d ∧ (∀ ch, rk ch < ct) ∧
    (∀ ch ch' : Nat → Bool, (∀ k, n ≤ k → k < n + d → ch k = ch' k) → rk ch = rk ch') ∧
    (∀ (f e : Nat) (ch ch' : Nat → Bool) (L : Nat → Prop), f ≤ n → n + d ≤ e → e < 2 ^ 31 → lc_Lv K U S ch L f e → ∀ g, n ≤ g → g < n + d → L g → K g = 3 → (∀ k, n ≤ k → k < g → ch k = ch' k) → ch g = false → ch' g = true → rk ch < rk ch') := by
  intro d
  induction d using Nat.strongRecOn with
  | _ d ih =>
    intro n h H hd hn
    have unary : ∀ d1 g, d = d1 + 1 → K n ≠ 3 → tr_Op cc K A P U O S cT C1 C2 d1 (n + 1) [g] [] → ∃ (rk : (Nat → Bool) → Nat) (ct : Nat), ct ≤ lc_G d ∧ (∀ ch, rk ch < ct) ∧
        (∀ ch ch' : Nat → Bool, (∀ k, n ≤ k → k < n + d → ch k = ch' k) → rk ch = rk ch') ∧
        (∀ (f e : Nat) (ch ch' : Nat → Bool) (L : Nat → Prop), f ≤ n → n + d ≤ e → e < 2 ^ 31 → lc_Lv K U S ch L f e → ∀ g, n ≤ g → g < n + d → L g → K g = 3 → (∀ k, n ≤ k → k < g → ch k = ch' k) → ch g = false → ch' g = true → rk ch < rk ch') := by
      intro d1 g ed hK h5
      obtain ⟨rk, ct, a1, a2, a3, a4⟩ := ih d1 (by omega) (n + 1) g h5 (by omega) (by omega)
      refine ⟨rk, ct, ?_, a2, fun ch ch' hc => a3 ch ch' (fun k k1 k2 => hc k (by omega) (by omega)), ?_⟩
      · have := lc_G1 d1 (by omega)
        rw [ed]; omega
      · intro f e ch ch' L f1 f2 f3 hL g g1 g2 g3 g4 g5 g6 g7
        by_cases q : g = n
        · subst q; exact absurd g4 hK
        · exact a4 f e ch ch' L (by omega) (by omega) f3 hL g (by omega) (by omega) g3 g4 (fun k k1 k2 => g5 k (by omega) k2) g6 g7
    rcases (tr_cases H).2 with ⟨kk, d1, d2, e, h5, h6⟩ | ⟨kk, d1, e, h5⟩ | ⟨kk, kp, ka, kb, d1, e, h5⟩ | ⟨kk, kp, ka, kb, d1, d2, e, h5, h6⟩ | ⟨k3, _, _, e⟩
    · obtain ⟨r1, c1, a1, a2, a3, a4⟩ := ih d1 (by omega) (n + 1) _ h5 (by omega) (by omega)
      obtain ⟨r2, c2, b1, b2, b3, b4⟩ := ih d2 (by omega) (n + 1 + d1) _ h6 (by omega) (by omega)
      have p1 := tr_pos h5
      have p2 := tr_pos h6
      refine ⟨fun ch => if ch n = true then c1 + r2 ch else r1 ch, c1 + c2, ?_, ?_, ?_, ?_⟩
      · have := (lc_Gt d1 (by omega) d2 (by omega) (by omega) p1 p2).1
        rw [e]; omega
      · intro ch
        have := a2 ch
        have := b2 ch
        dsimp only
        split <;> omega
      · intro ch ch' hc
        dsimp only
        rw [hc n (by omega) (by omega), a3 ch ch' (fun k k1 k2 => hc k (by omega) (by omega)), b3 ch ch' (fun k k1 k2 => hc k (by omega) (by omega))]
      · intro f e' ch ch' L f1 f2 f3 hL g g1 g2 g3 g4 g5 g6 g7
        dsimp only
        by_cases q : g = n
        · subst q
          rw [g6, g7, if_neg (by decide), if_pos rfl]
          have := a2 ch; omega
        · have hnn : ch n = ch' n := g5 n (by omega) (by omega)
          by_cases q2 : g < n + 1 + d1
          · have l1 := lc_root hL h5 (by omega) (by omega) f3 g (by omega) q2 g3
            have o1 := (tr_cases h5).1
            have l2 := ((hL.2 (n + 1) (by omega) (by omega)).mp l1).2
            rw [o1.2.1, nI_clamp (by omega)] at l2
            have l3 := l2 kk
            rw [o1.2.2.2.1] at l3
            have l4 := lc_b0 l3
            rw [← hnn, l4, if_neg (by decide), if_neg (by decide)]
            exact a4 f e' ch ch' L (by omega) (by omega) f3 hL g (by omega) (by omega) g3 g4 (fun k k1 k2 => g5 k (by omega) k2) g6 g7
          · have l1 := lc_root hL h6 (by omega) (by omega) f3 g (by omega) (by omega) g3
            have o1 := (tr_cases h6).1
            have l2 := ((hL.2 (n + 1 + d1) (by omega) (by omega)).mp l1).2
            rw [o1.2.1, nI_clamp (by omega)] at l2
            have l3 := l2 kk
            rw [o1.2.2.2.1] at l3
            have l4 := lc_b1 l3
            rw [← hnn, l4, if_pos rfl, if_pos rfl]
            have := b4 f e' ch ch' L (by omega) (by omega) f3 hL g (by omega) (by omega) g3 g4 (fun k k1 k2 => g5 k (by omega) k2) g6 g7
            omega
    · exact unary d1 _ e (by rw [kk]; decide) h5
    · exact unary d1 _ e (by rw [kk]; decide) h5
    · obtain ⟨r1, c1, a1, a2, a3, a4⟩ := ih d1 (by omega) (n + 1) _ h5 (by omega) (by omega)
      obtain ⟨r2, c2, b1, b2, b3, b4⟩ := ih d2 (by omega) (n + 1 + d1) _ h6 (by omega) (by omega)
      have p1 := tr_pos h5
      have p2 := tr_pos h6
      refine ⟨fun ch => r1 ch * c2 + r2 ch, c1 * c2, ?_, ?_, ?_, ?_⟩
      · have := (lc_Gt d1 (by omega) d2 (by omega) (by omega) p1 p2).2
        have h7 := Nat.mul_le_mul a1 b1
        rw [e]; omega
      · intro ch
        have h7 := a2 ch
        have h8 := b2 ch
        have h9 : (r1 ch + 1) * c2 ≤ c1 * c2 := Nat.mul_le_mul_right _ h7
        rw [Nat.add_mul] at h9
        dsimp only
        omega
      · intro ch ch' hc
        dsimp only
        rw [a3 ch ch' (fun k k1 k2 => hc k (by omega) (by omega)), b3 ch ch' (fun k k1 k2 => hc k (by omega) (by omega))]
      · intro f e' ch ch' L f1 f2 f3 hL g g1 g2 g3 g4 g5 g6 g7
        dsimp only
        by_cases q : g = n
        · subst q; rw [kk] at g4; exact absurd g4 (by decide)
        · by_cases q2 : g < n + 1 + d1
          · have h7 := a4 f e' ch ch' L (by omega) (by omega) f3 hL g (by omega) (by omega) g3 g4 (fun k k1 k2 => g5 k (by omega) k2) g6 g7
            have h8 := b2 ch
            have h9 : (r1 ch + 1) * c2 ≤ r1 ch' * c2 := Nat.mul_le_mul_right _ h7
            rw [Nat.add_mul] at h9
            omega
          · have h7 := b4 f e' ch ch' L (by omega) (by omega) f3 hL g (by omega) (by omega) g3 g4 (fun k k1 k2 => g5 k (by omega) k2) g6 g7
            rw [a3 ch ch' (fun k k1 k2 => g5 k (by omega) (by omega))]
            omega
    · subst e
      refine ⟨fun _ => 0, 1, by decide, fun _ => Nat.zero_lt_one, fun _ _ _ => rfl, ?_⟩
      intro f e' ch ch' L f1 f2 f3 hL g g1 g2 g3 g4 g5 g6 g7
      have : g = n := by omega
      subst this
      exact absurd g4 k3
/-- live tests at one position are one -/
theorem lc_uniq {ch : Nat → Bool} {L : Nat → Prop} {f e : Nat} (hL : lc_Lv K U S ch L f e) (he : e < 2 ^ 31) : ∀ (d n : Nat) (h : tr_H), tr_Op cc K A P U O S cT C1 C2 d n [h] [] → f ≤ n → n + d ≤ e → 1 ≤ h.1 → h.1 ≤ 7 →
    ∀ k1 k2, n ≤ k1 → k1 < n + d → n ≤ k2 → k2 < n + d → L k1 → L k2 → (K k1 = 1 ∨ K k1 = 2) → (K k2 = 1 ∨ K k2 = 2) → P k1 = P k2 → k1 = k2 := by
  intro d
  induction d using Nat.strongRecOn with
  | _ d ih =>
    intro n h H f1 f2 p1 p7
    have un : ∀ d1 g, d = d1 + 1 → 1 ≤ g.1 → g.1 ≤ 7 → (K n = 4 ∨ (K n = 1 ∧ g.1 / 2 = h.1)) → tr_Op cc K A P U O S cT C1 C2 d1 (n + 1) [g] [] →
        ∀ k1 k2, n ≤ k1 → k1 < n + d → n ≤ k2 → k2 < n + d → L k1 → L k2 → (K k1 = 1 ∨ K k1 = 2) → (K k2 = 1 ∨ K k2 = 2) → P k1 = P k2 → k1 = k2 := by
      intro d1 g ed g1 g7 hK h5 k1 k2 a1 a2 b1 b2 l1 l2 t1 t2 hp
      have nt : ∀ k, n + 1 ≤ k → k < n + d → (K n = 1 ∨ K n = 2) → ¬ P n = P k := by
        intro k c1 c2 c3 c4
        rcases hK with hK | ⟨_, hK⟩
        · rw [hK] at c3; exact absurd c3 (by decide)
        · obtain ⟨q, q1, q2, q3, q4⟩ := tr_where _ _ _ h5 g1 g7 k c1 (by omega)
          rw [(tr_cases H).1.1, q1] at c4
          have := (nI_eq (by omega) (by omega)).mp c4
          unfold tr_dsc at q4
          omega
      by_cases z1 : k1 = n
      · by_cases z2 : k2 = n
        · omega
        · subst z1; exact absurd hp (nt k2 (by omega) b2 t1)
      · by_cases z2 : k2 = n
        · subst z2; exact absurd hp.symm (nt k1 (by omega) a2 t2)
        · exact ih d1 (by omega) (n + 1) g h5 (by omega) (by omega) g1 g7 k1 k2 (by omega) (by omega) (by omega) (by omega) l1 l2 t1 t2 hp
    rcases (tr_cases H).2 with ⟨kk, d1, d2, e, h5, h6⟩ | ⟨kk, d1, e, h5⟩ | ⟨kk, kp, ka, kb, d1, e, h5⟩ | ⟨kk, kp, ka, kb, d1, d2, e, h5, h6⟩ | ⟨k3, _, _, e⟩
    · intro k1 k2 a1 a2 b1 b2 l1 l2 t1 t2 hp
      have z1 : k1 ≠ n := by rintro rfl; rw [kk] at t1; exact absurd t1 (by decide)
      have z2 : k2 ≠ n := by rintro rfl; rw [kk] at t2; exact absurd t2 (by decide)
      have side : ∀ k k', n + 1 ≤ k → k < n + 1 + d1 → n + 1 + d1 ≤ k' → k' < n + d → L k → L k' → False := by
        intro k k' c1 c2 c3 c4 c5 c6
        have q1 := lc_root hL h5 (by omega) (by omega) he k c1 c2 c5
        have q2 := lc_root hL h6 (by omega) (by omega) he k' c3 (by omega) c6
        have o1 := (tr_cases h5).1
        have o2 := (tr_cases h6).1
        have s1 := ((hL.2 (n + 1) (by omega) (by omega)).mp q1).2
        have s2 := ((hL.2 (n + 1 + d1) (by have := tr_pos h5; omega) (by have := tr_pos h6; omega)).mp q2).2
        rw [o1.2.1, nI_clamp (by omega)] at s1
        rw [o2.2.1, nI_clamp (by omega)] at s2
        have s3 := s1 kk
        have s4 := s2 kk
        rw [o1.2.2.2.1] at s3
        rw [o2.2.2.2.1] at s4
        have s5 := lc_b0 s3
        have s6 := lc_b1 s4
        rw [s5] at s6
        exact absurd s6 (by decide)
      by_cases c1 : k1 < n + 1 + d1
      · by_cases c2 : k2 < n + 1 + d1
        · exact ih d1 (by omega) (n + 1) _ h5 (by omega) (by omega) p1 p7 k1 k2 (by omega) (by omega) (by omega) (by omega) l1 l2 t1 t2 hp
        · exact (side k1 k2 (by omega) c1 (by omega) b2 l1 l2).elim
      · by_cases c2 : k2 < n + 1 + d1
        · exact (side k2 k1 (by omega) c2 (by omega) a2 l2 l1).elim
        · exact ih d2 (by omega) (n + 1 + d1) _ h6 (by omega) (by omega) p1 p7 k1 k2 (by omega) (by omega) (by omega) (by omega) l1 l2 t1 t2 hp
    · exact un d1 (h.1, h.2.1, nI n, -1, 0) e p1 p7 (Or.inl kk) h5
    · exact un d1 _ e (by dsimp only; omega) (by dsimp only; omega) (Or.inr ⟨kk, by dsimp only; omega⟩) h5
    · intro k1 k2 a1 a2 b1 b2 l1 l2 t1 t2 hp
      have w1 : ∀ k, n + 1 ≤ k → k < n + 1 + d1 → ∃ q, P k = nI q ∧ q ≤ 7 ∧ tr_dsc (2 * h.1) q := by
        intro k c1 c2
        obtain ⟨q, q1, q2, q3, q4⟩ := tr_where _ _ _ h5 (by dsimp only; omega) (by dsimp only; omega) k c1 c2
        exact ⟨q, q1, q3, q4⟩
      have w2 : ∀ k, n + 1 + d1 ≤ k → k < n + d → ∃ q, P k = nI q ∧ q ≤ 7 ∧ tr_dsc (2 * h.1 + 1) q := by
        intro k c1 c2
        obtain ⟨q, q1, q2, q3, q4⟩ := tr_where _ _ _ h6 (by dsimp only; omega) (by dsimp only; omega) k c1 (by omega)
        exact ⟨q, q1, q3, q4⟩
      have nn : ∀ k, n + 1 ≤ k → k < n + d → ¬ P n = P k := by
        intro k c1 c2 c4
        rw [(tr_cases H).1.1] at c4
        by_cases c3 : k < n + 1 + d1
        · obtain ⟨q, q1, q2, q3⟩ := w1 k c1 c3
          rw [q1] at c4
          have := (nI_eq (by omega) (by omega)).mp c4
          unfold tr_dsc at q3
          omega
        · obtain ⟨q, q1, q2, q3⟩ := w2 k (by omega) c2
          rw [q1] at c4
          have := (nI_eq (by omega) (by omega)).mp c4
          unfold tr_dsc at q3
          omega
      have nx : ∀ k k', n + 1 ≤ k → k < n + 1 + d1 → n + 1 + d1 ≤ k' → k' < n + d → ¬ P k = P k' := by
        intro k k' c1 c2 c3 c4 c5
        obtain ⟨q, q1, q2, q3⟩ := w1 k c1 c2
        obtain ⟨r, r1, r2, r3⟩ := w2 k' c3 c4
        rw [q1, r1] at c5
        have := (nI_eq (by omega) (by omega)).mp c5
        unfold tr_dsc at q3 r3
        omega
      by_cases z1 : k1 = n
      · by_cases z2 : k2 = n
        · omega
        · subst z1; exact absurd hp (nn k2 (by omega) b2)
      · by_cases z2 : k2 = n
        · subst z2; exact absurd hp.symm (nn k1 (by omega) a2)
        · by_cases c1 : k1 < n + 1 + d1
          · by_cases c2 : k2 < n + 1 + d1
            · exact ih d1 (by omega) (n + 1) _ h5 (by omega) (by omega) (by dsimp only; omega) (by dsimp only; omega) k1 k2 (by omega) (by omega) (by omega) (by omega) l1 l2 t1 t2 hp
            · exact absurd hp (nx k1 k2 (by omega) c1 (by omega) b2)
          · by_cases c2 : k2 < n + 1 + d1
            · exact absurd hp.symm (nx k2 k1 (by omega) c2 (by omega) a2)
            · exact ih d2 (by omega) (n + 1 + d1) _ h6 (by omega) (by omega) (by dsimp only; omega) (by dsimp only; omega) k1 k2 (by omega) (by omega) (by omega) (by omega) l1 l2 t1 t2 hp
    · intro k1 k2 a1 a2 b1 b2 l1 l2 t1 t2 hp
      omega
end
end
section
section
variable {cc : Nat} {K A P U O S cT C1 C2 : Nat → Int32}
def lc_Hit (K A P U v : Nat → Int32) (f e : Nat) (H : Nat → Prop) : Prop := ∀ n, f ≤ n → n < e → (H n ↔ (K n = 3 ∧ ∃ k, n < k ∧ k < e ∧ U k = nI n ∧ H k) ∨ (K n ≠ 3 ∧ ((K n = 1 ∨ K n = 2) → v (P n).toNatClampNeg = A n) ∧ ∀ k, n < k → k < e → U k = nI n → H k))
def lc_Part (K U : Nat → Int32) (f e : Nat) (H Q : Nat → Prop) : Prop := (Q f ↔ H f) ∧ ∀ n, f < n → n < e → (Q n ↔ Q (U n).toNatClampNeg ∧ H n ∧ (K (U n).toNatClampNeg ≠ 3 ∨ n = (U n).toNatClampNeg + 1 ∨ ¬ H ((U n).toNatClampNeg + 1)))
def lc_All (K A P v : Nat → Int32) (f e : Nat) (L : Nat → Prop) : Prop := ∀ n, f ≤ n → n < e → L n → (K n = 1 ∨ K n = 2) → v (P n).toNatClampNeg = A n
theorem lc_hitL {v : Nat → Int32} {ch : Nat → Bool} {L H : Nat → Prop} {f d : Nat} {h : tr_H} (T : tr_Op cc K A P U O S cT C1 C2 d f [h] []) (hb : f + d < 2 ^ 31) (hL : lc_Lv K U S ch L f (f + d)) (hH : lc_Hit K A P U v f (f + d) H) (hA : lc_All K A P v f (f + d) L) :
    ∀ j n, j + n = f + d → f ≤ n → n < f + d → L n → H n := by
  intro j
  induction j using Nat.strongRecOn with
  | _ j ih =>
    intro n hj h1 h2 hn
    rw [hH n h1 h2]
    by_cases k3 : K n = 3
    · refine Or.inl ⟨k3, ?_⟩
      obtain ⟨m, m1, m2, m3, m4, m5, m6, m7, m8, m9⟩ := tr_or _ _ _ T hb n h1 h2 k3
      cases hc : ch n with
      | false =>
        refine ⟨n + 1, by omega, by omega, m3, ih (j - 1) (by omega) (n + 1) (by omega) (by omega) (by omega) ?_⟩
        rw [hL.2 (n + 1) (by omega) (by omega), m3, nI_clamp (by omega)]
        exact ⟨hn, fun _ => by rw [hc, m5]; rfl⟩
      | true =>
        refine ⟨m, by omega, by omega, m6, ih (f + d - m) (by omega) m (by omega) (by omega) (by omega) ?_⟩
        rw [hL.2 m (by omega) (by omega), m6, nI_clamp (by omega)]
        exact ⟨hn, fun _ => by rw [hc, m8]; rfl⟩
    · refine Or.inr ⟨k3, fun t => hA n h1 h2 hn t, fun k a b c => ih (f + d - k) (by omega) k (by omega) (by omega) b ?_⟩
      rw [hL.2 k (by omega) b, c, nI_clamp (by omega)]
      exact ⟨hn, fun z => absurd z k3⟩
theorem lc_QH {K U : Nat → Int32} {f e : Nat} {H Q : Nat → Prop} (hP : lc_Part K U f e H Q) {n : Nat} (h1 : f ≤ n) (h2 : n < e) (h : Q n) : H n := by
  by_cases q : n = f
  · subst q; exact hP.1.mp h
  · exact ((hP.2 n (by omega) h2).mp h).2.1
/-- the reference's parts are the live nodes of its own choice -/
noncomputable def lc_st (K : Nat → Int32) (H Q : Nat → Prop) (k : Nat) : Bool := lc_d (K k = 3 ∧ Q k ∧ ¬ H (k + 1))
theorem lc_star {v : Nat → Int32} {H Q : Nat → Prop} {f d : Nat} {h : tr_H} (T : tr_Op cc K A P U O S cT C1 C2 d f [h] []) (hb : f + d < 2 ^ 31) (hH : lc_Hit K A P U v f (f + d) H) (hP : lc_Part K U f (f + d) H Q) (h0 : H f) :
    lc_Lv K U S (lc_st K H Q) Q f (f + d) ∧ lc_All K A P v f (f + d) Q := by
  refine ⟨⟨hP.1.mpr h0, fun n n1 n2 => ?_⟩, fun n n1 n2 hq t => ?_⟩
  · obtain ⟨u, u1, u2, u3⟩ := tr_up _ _ _ T n n1 n2
    have hu := hP.2 n n1 n2
    rw [u3, nI_clamp (by omega)] at hu ⊢
    rw [hu]
    constructor
    · rintro ⟨q1, q2, q3⟩
      refine ⟨q1, fun k3 => ?_⟩
      obtain ⟨m, m1, m2, m3, m4, m5, m6, m7, m8, m9⟩ := tr_or _ _ _ T hb u u1 (by omega) k3
      by_cases z : n = u + 1
      · have : lc_st K H Q u = false := lc_df.mpr (fun w => w.2.2 (z ▸ q2))
        rw [this, z, m5]; rfl
      · have z2 : n = m := (m9 n n1 n2 u3).resolve_left z
        have z3 : ¬ H (u + 1) := by
          rcases q3 with q3 | q3 | q3
          · exact absurd k3 q3
          · exact absurd q3 z
          · exact q3
        have : lc_st K H Q u = true := lc_dt.mpr ⟨k3, q1, z3⟩
        rw [this, z2, m8]; rfl
    · rintro ⟨q1, q2⟩
      have hHu := lc_QH hP u1 (by omega) q1
      by_cases k3 : K u = 3
      · obtain ⟨m, m1, m2, m3, m4, m5, m6, m7, m8, m9⟩ := tr_or _ _ _ T hb u u1 (by omega) k3
        have q3 := q2 k3
        by_cases z : n = u + 1
        · rw [z, m5] at q3
          have q4 := lc_df.mp (lc_b0 q3)
          have q5 : H (u + 1) := Classical.byContradiction (fun w => q4 ⟨k3, q1, w⟩)
          exact ⟨q1, z ▸ q5, Or.inr (Or.inl z)⟩
        · have z2 : n = m := (m9 n n1 n2 u3).resolve_left z
          rw [z2, m8] at q3
          have q4 := lc_dt.mp (lc_b1 q3)
          refine ⟨q1, ?_, Or.inr (Or.inr q4.2.2)⟩
          rcases (hH u u1 (by omega)).mp hHu with ⟨_, k, c1, c2, c3, c4⟩ | ⟨c1, _⟩
          · rcases m9 k (by omega) c2 c3 with c5 | c5
            · exact absurd (c5 ▸ c4) q4.2.2
            · rw [z2, ← c5]; exact c4
          · exact absurd k3 c1
      · rcases (hH u u1 (by omega)).mp hHu with ⟨c1, _⟩ | ⟨_, _, c3⟩
        · exact absurd c1 k3
        · exact ⟨q1, c3 n (by omega) n2 u3, Or.inl k3⟩
  · rcases (hH n n1 n2).mp (lc_QH hP n1 n2 hq) with ⟨c1, _⟩ | ⟨_, c2, _⟩
    · rw [c1] at t; exact absurd t (by decide)
    · exact c2 t
theorem lc_agree {ch ch' : Nat → Bool} {L L' : Nat → Prop} {f d g : Nat} {h : tr_H} (T : tr_Op cc K A P U O S cT C1 C2 d f [h] []) (hb : f + d < 2 ^ 31) (hL : lc_Lv K U S ch L f (f + d)) (hL' : lc_Lv K U S ch' L' f (f + d)) (ha : ∀ k, f ≤ k → k < g → ch k = ch' k) : ∀ k, f ≤ k → k < f + d → k ≤ g → (L k ↔ L' k) := by
  intro k
  induction k using Nat.strongRecOn with
  | _ k ih =>
    intro h1 h2 h3
    by_cases q : k = f
    · subst q; exact ⟨fun _ => hL'.1, fun _ => hL.1⟩
    · obtain ⟨u, u1, u2, u3⟩ := tr_up _ _ _ T k (by omega) h2
      rw [hL.2 k (by omega) h2, hL'.2 k (by omega) h2, u3, nI_clamp (by omega), ih u u2 u1 (by omega) (by omega), ha u u1 (by omega)]
/-- a choice before the reference's doesn't match -/
theorem lc_min {v : Nat → Int32} {ch : Nat → Bool} {L H Q : Nat → Prop} {f d g : Nat} {h : tr_H} (T : tr_Op cc K A P U O S cT C1 C2 d f [h] []) (hb : f + d < 2 ^ 31) (hL : lc_Lv K U S ch L f (f + d)) (hH : lc_Hit K A P U v f (f + d) H) (hP : lc_Part K U f (f + d) H Q) (h0 : H f)
    (g1 : f ≤ g) (g2 : g < f + d) (ha : ∀ k, f ≤ k → k < g → ch k = lc_st K H Q k) (hg : ch g = false) (hg' : lc_st K H Q g = true) : ¬ lc_All K A P v f (f + d) L := by
  intro hA
  obtain ⟨k3, q1, q2⟩ := lc_dt.mp hg'
  have l1 : L g := (lc_agree T hb hL (lc_star T hb hH hP h0).1 ha g g1 g2 (Nat.le_refl _)).mpr q1
  obtain ⟨m, m1, m2, m3, m4, m5, m6, m7, m8, m9⟩ := tr_or _ _ _ T hb g g1 g2 k3
  refine q2 (lc_hitL T hb hL hH hA (f + d - (g + 1)) (g + 1) (by omega) (by omega) (by omega) ?_)
  rw [hL.2 (g + 1) (by omega) (by omega), m3, nI_clamp (by omega)]
  exact ⟨l1, fun _ => by rw [hg, m5]; rfl⟩
/-- the row's choices in the order of trial -/
def lc_Seq (K U S : Nat → Int32) (f e k : Nat) (ch : Nat → Nat → Bool) (L : Nat → Nat → Prop) : Prop :=
  (∀ i, i < k → lc_Lv K U S (ch i) (L i) f e ∧ ∀ n, f ≤ n → n < e → ch i n = true → K n = 3 ∧ L i n) ∧ (∀ n, f ≤ n → n < e → ch 0 n = false) ∧
  (∀ i, i + 1 < k → ∃ g, f ≤ g ∧ g < e ∧ K g = 3 ∧ L i g ∧ ch i g = false ∧ (∀ n, g < n → n < e → K n = 3 → L i n → ch i n = true) ∧ ∀ n, f ≤ n → n < e → ch (i + 1) n = ((decide (n < g) && ch i n) || decide (n = g))) ∧
  0 < k ∧ (∀ n, f ≤ n → n < e → K n = 3 → L (k - 1) n → ch (k - 1) n = true)
def lc_lt (f e : Nat) (c c' : Nat → Bool) : Prop := ∃ g, f ≤ g ∧ g < e ∧ (∀ k, f ≤ k → k < g → c k = c' k) ∧ c g = false ∧ c' g = true
theorem lc_first {f e : Nat} {c c' : Nat → Bool} (h : ¬ ∀ k, f ≤ k → k < e → c k = c' k) : ∃ g, f ≤ g ∧ g < e ∧ (∀ k, f ≤ k → k < g → c k = c' k) ∧ c g ≠ c' g := by
  have h2 : ∃ g, f ≤ g ∧ g < e ∧ c g ≠ c' g := Classical.byContradiction (fun w => h (fun k a b => Classical.byContradiction (fun z => w ⟨k, a, b, z⟩)))
  obtain ⟨g, ⟨g1, g2, g3⟩, g4⟩ := pk_least (fun g => f ≤ g ∧ g < e ∧ c g ≠ c' g) h2
  exact ⟨g, g1, g2, fun k a b => Classical.byContradiction (fun z => g4 k b ⟨a, by omega, z⟩), g3⟩
theorem lc_next {c : Nat → Bool} {Lc : Nat → Prop} {f d k : Nat} {h : tr_H} {ch : Nat → Nat → Bool} {L : Nat → Nat → Prop} (T : tr_Op cc K A P U O S cT C1 C2 d f [h] []) (hb : f + d < 2 ^ 31) (hS : lc_Seq K U S f (f + d) k ch L) (hc : lc_Lv K U S c Lc f (f + d)) (hr : ∀ n, f ≤ n → n < f + d → c n = true → K n = 3 ∧ Lc n) {i : Nat} (hi : i < k) (hlt : lc_lt f (f + d) (ch i) c) :
    i + 1 < k ∧ ((∀ n, f ≤ n → n < f + d → ch (i + 1) n = c n) ∨ lc_lt f (f + d) (ch (i + 1)) c) := by
  obtain ⟨x, x1, x2, x3, x4, x5⟩ := hlt
  obtain ⟨s1, s2, s3, s4, s5⟩ := hS
  obtain ⟨r1, r2⟩ := hr x x1 x2 x5
  have l1 : L i x := (lc_agree T hb (s1 i hi).1 hc x3 x x1 x2 (Nat.le_refl _)).mpr r2
  have hk : i + 1 < k := by
    apply Classical.byContradiction
    intro z
    have : i = k - 1 := by omega
    subst this
    have := s5 x x1 x2 r1 l1
    rw [x4] at this
    exact absurd this (by decide)
  refine ⟨hk, ?_⟩
  obtain ⟨g, g1, g2, g3, g4, g5, g6, g7⟩ := s3 i hk
  have hxg : x ≤ g := by
    apply Classical.byContradiction
    intro z
    have := g6 x (by omega) x2 r1 l1
    rw [x4] at this
    exact absurd this (by decide)
  by_cases q : x = g
  · subst q
    have e1 : ∀ n, f ≤ n → n ≤ x → ch (i + 1) n = c n := by
      intro n n1 n2
      rw [g7 n n1 (by omega)]
      by_cases z : n = x
      · subst z; rw [x5]; simp
      · rw [x3 n n1 (by omega)]
        have : n < x := by omega
        simp [this, z]
    by_cases w : ∀ n, f ≤ n → n < f + d → ch (i + 1) n = c n
    · exact Or.inl w
    · obtain ⟨y, y1, y2, y3, y4⟩ := lc_first w
      refine Or.inr ⟨y, y1, y2, y3, ?_⟩
      have hy : x < y := by
        apply Classical.byContradiction
        intro z
        exact y4 (e1 y y1 (by omega))
      have e2 : ch (i + 1) y = false := by
        rw [g7 y y1 y2]
        simp only [Bool.or_eq_false_iff, Bool.and_eq_false_iff, decide_eq_false_iff_not]
        exact ⟨Or.inl (by omega), by omega⟩
      refine ⟨e2, ?_⟩
      rw [e2] at y4
      cases hcy : c y with
      | false => exact absurd hcy.symm y4
      | true => rfl
  · refine Or.inr ⟨x, x1, x2, fun n n1 n2 => ?_, ?_, x5⟩
    · rw [g7 n n1 (by omega), ← x3 n n1 n2]
      have z1 : n < g := by omega
      have z2 : n ≠ g := by omega
      simp [z1, z2]
    · rw [g7 x x1 x2, x4]
      simp [q]
theorem lc_reach {c : Nat → Bool} {Lc : Nat → Prop} {f d k : Nat} {h : tr_H} {ch : Nat → Nat → Bool} {L : Nat → Nat → Prop} (T : tr_Op cc K A P U O S cT C1 C2 d f [h] []) (hb : f + d < 2 ^ 31) (hS : lc_Seq K U S f (f + d) k ch L) (hc : lc_Lv K U S c Lc f (f + d)) (hr : ∀ n, f ≤ n → n < f + d → c n = true → K n = 3 ∧ Lc n) :
    ∀ j i, i + j = k → i < k → ((∀ n, f ≤ n → n < f + d → ch i n = c n) ∨ lc_lt f (f + d) (ch i) c) → (∀ a, a < i → lc_lt f (f + d) (ch a) c) → ∃ i', i' < k ∧ (∀ n, f ≤ n → n < f + d → ch i' n = c n) ∧ ∀ a, a < i' → lc_lt f (f + d) (ch a) c := by
  intro j
  induction j with
  | zero => intro i h1 h2; omega
  | succ j ih =>
    intro i h1 h2 h3 h4
    rcases h3 with h3 | h3
    · exact ⟨i, h2, h3, h4⟩
    · obtain ⟨a1, a2⟩ := lc_next T hb hS hc hr h2 h3
      exact ih (i + 1) (by omega) a1 a2 (lt_s h4 h3)
/-- the rows' semantics: some clause matches iff the root is hit, and the first that matches is the part -/
theorem lc_P2 {v : Nat → Int32} {H Q : Nat → Prop} {f d k : Nat} {h : tr_H} {ch : Nat → Nat → Bool} {L : Nat → Nat → Prop} (T : tr_Op cc K A P U O S cT C1 C2 d f [h] []) (hb : f + d < 2 ^ 31) (hS : lc_Seq K U S f (f + d) k ch L) (hH : lc_Hit K A P U v f (f + d) H) (hP : lc_Part K U f (f + d) H Q) :
    (H f ↔ ∃ i, i < k ∧ lc_All K A P v f (f + d) (L i)) ∧ ∀ i, i < k → lc_All K A P v f (f + d) (L i) → (∀ j, j < i → ¬ lc_All K A P v f (f + d) (L j)) → ∀ n, f ≤ n → n < f + d → (Q n ↔ L i n) := by
  have hd := tr_pos T
  have back : ∀ i, i < k → lc_All K A P v f (f + d) (L i) → H f := fun i hi hA => lc_hitL T hb (hS.1 i hi).1 hH hA d f (by omega) (by omega) (by omega) (hS.1 i hi).1.1
  have key : H f → ∃ i, i < k ∧ lc_All K A P v f (f + d) (L i) ∧ (∀ n, f ≤ n → n < f + d → (Q n ↔ L i n)) ∧ ∀ j, j < i → ¬ lc_All K A P v f (f + d) (L j) := by
    intro h0
    obtain ⟨t1, t2⟩ := lc_star T hb hH hP h0
    have red : ∀ n, f ≤ n → n < f + d → lc_st K H Q n = true → K n = 3 ∧ Q n := fun n _ _ z => ⟨(lc_dt.mp z).1, (lc_dt.mp z).2.1⟩
    have st : (∀ n, f ≤ n → n < f + d → ch 0 n = lc_st K H Q n) ∨ lc_lt f (f + d) (ch 0) (lc_st K H Q) := by
      by_cases w : ∀ n, f ≤ n → n < f + d → ch 0 n = lc_st K H Q n
      · exact Or.inl w
      · obtain ⟨g, g1, g2, g3, g4⟩ := lc_first w
        refine Or.inr ⟨g, g1, g2, g3, hS.2.1 g g1 g2, ?_⟩
        rw [hS.2.1 g g1 g2] at g4
        cases hc : lc_st K H Q g with
        | false => exact absurd hc.symm g4
        | true => rfl
    obtain ⟨i, i1, i2, i3⟩ := lc_reach T hb hS t1 red k 0 (by omega) hS.2.2.2.1 st (fun a ha => by omega)
    have ag : ∀ n, f ≤ n → n < f + d → (Q n ↔ L i n) := fun n n1 n2 => (lc_agree (g := f + d) T hb (hS.1 i i1).1 t1 (fun k a b => i2 k a b) n n1 n2 (by omega)).symm
    refine ⟨i, i1, fun n n1 n2 l t => t2 n n1 n2 ((ag n n1 n2).mpr l) t, ag, fun j hj => ?_⟩
    obtain ⟨g, g1, g2, g3, g4, g5⟩ := i3 j hj
    exact lc_min T hb (hS.1 j (by omega)).1 hH hP h0 g1 g2 g3 g4 g5
  refine ⟨⟨fun h0 => ?_, fun ⟨i, hi, hA⟩ => back i hi hA⟩, fun i hi hA hn => ?_⟩
  · obtain ⟨i, a, b, _⟩ := key h0; exact ⟨i, a, b⟩
  · obtain ⟨i', a, b, c, d'⟩ := key (back i hi hA)
    have : i = i' := by
      rcases Nat.lt_trichotomy i i' with z | z | z
      · exact absurd hA (d' i z)
      · exact z
      · exact absurd b (hn i' z)
    subst this
    exact c
/-- the number of choices -/
theorem lc_count {f d k : Nat} {h : tr_H} {ch : Nat → Nat → Bool} {L : Nat → Nat → Prop} (T : tr_Op cc K A P U O S cT C1 C2 d f [h] []) (hb : f + d < 2 ^ 31) (hd : d ≤ 16) (hS1 : ∀ i, i < k → lc_Lv K U S (ch i) (L i) f (f + d))
    (hS3 : ∀ i, i + 1 < k → ∃ g, f ≤ g ∧ g < f + d ∧ K g = 3 ∧ L i g ∧ ch i g = false ∧ ∀ n, f ≤ n → n < f + d → ch (i + 1) n = ((decide (n < g) && ch i n) || decide (n = g))) : k ≤ lc_G d := by
  obtain ⟨rk, ct, a1, a2, a3, a4⟩ := lc_rank _ _ _ T hd hb
  have key : ∀ i, i < k → i ≤ rk (ch i) := by
    intro i
    induction i with
    | zero => intro _; omega
    | succ i ih =>
      intro hi
      have h1 := ih (by omega)
      obtain ⟨g, g1, g2, g3, g4, g5, g6⟩ := hS3 i hi
      have h2 := a4 f (f + d) (ch i) (ch (i + 1)) (L i) (Nat.le_refl _) (Nat.le_refl _) hb (hS1 i (by omega)) g g1 g2 g4 g3 (fun n n1 n2 => ?_) g5 ?_
      · omega
      · rw [g6 n n1 (by omega)]
        have z : n ≠ g := by omega
        simp [n2, z]
      · rw [g6 g g1 g2]; simp
  cases k with
  | zero => omega
  | succ k =>
    have h1 := key k (by omega)
    have h2 := a2 (ch k)
    omega
end
end
section
section
variable {N : Nat} {tst : Nat → Nat → Bool} {hd : Nat → Nat → Int32} {rw : Nat → Nat} {sol : Nat → Bool} {rt : Int32} {fty : Int32 → Int32 → Nat → Int32} {okT : Nat → Int32 → Int32 → Prop}
/-! the decision graph, in plain terms: masks m, open types o (-1: closed), values v -/
def gh_ty (rt : Int32) (fty : Int32 → Int32 → Nat → Int32) (v : Nat → Int32) (p : Nat) : Int32 :=
  if p ≤ 1 then rt else if p ≤ 3 then fty rt (v 1) p else fty (fty rt (v 1) (p / 2)) (v (p / 2)) p
theorem gh_ty1 {rt : Int32} {fty : Int32 → Int32 → Nat → Int32} {v : Nat → Int32} : gh_ty rt fty v 1 = rt := rfl
theorem gh_ty_step {rt : Int32} {fty : Int32 → Int32 → Nat → Int32} {v : Nat → Int32} {p : Nat} (h2 : 2 ≤ p) (h7 : p ≤ 7) : gh_ty rt fty v p = fty (gh_ty rt fty v (p / 2)) (v (p / 2)) p := by
  unfold gh_ty
  by_cases h3 : p ≤ 3
  · have e : p / 2 = 1 := by omega
    rw [if_neg (by omega), if_pos h3, e, if_pos (by omega)]
  · rw [if_neg (by omega), if_neg h3, if_neg (by omega), if_pos (by omega)]
theorem gh_tyeq {rt : Int32} {fty : Int32 → Int32 → Nat → Int32} {v w : Nat → Int32} {p : Nat} (h1 : 1 ≤ p) (h7 : p ≤ 7) (h : ∀ a, 1 ≤ a → a < p → tr_dsc a p → v a = w a) : gh_ty rt fty v p = gh_ty rt fty w p := by
  unfold gh_ty
  by_cases h0 : p ≤ 1
  · rw [if_pos h0, if_pos h0]
  · rw [if_neg h0, if_neg h0]
    by_cases h3 : p ≤ 3
    · rw [if_pos h3, if_pos h3, h 1 (by omega) (by omega) (by unfold tr_dsc; omega)]
    · rw [if_neg h3, if_neg h3, h 1 (by omega) (by omega) (by unfold tr_dsc; omega), h (p / 2) (by omega) (by omega) (by unfold tr_dsc; omega)]
def gh_Mt (tst : Nat → Nat → Bool) (hd : Nat → Nat → Int32) (v : Nat → Int32) (c : Nat) : Prop := ∀ p, 1 ≤ p → p ≤ 7 → tst c p = true → v p = hd c p
def gh_Sel (N : Nat) (tst : Nat → Nat → Bool) (hd : Nat → Nat → Int32) (rw : Nat → Nat) (sol : Nat → Bool) (v : Nat → Int32) (c : Nat) : Prop := c < N ∧ gh_Mt tst hd v c ∧ ∀ c0, c0 < c → gh_Mt tst hd v c0 → sol c0 = false ∧ rw c0 ≠ rw c
def gh_Good (N : Nat) (tst : Nat → Nat → Bool) (hd : Nat → Nat → Int32) (rw : Nat → Nat) (sol : Nat → Bool) (rt : Int32) (fty : Int32 → Int32 → Nat → Int32) (m : Nat → Bool) (o v : Nat → Int32) : Prop :=
  (∀ p, 1 ≤ p → p ≤ 7 → o p ≠ -1 → o p = gh_ty rt fty v p) ∧ (∀ c, gh_Sel N tst hd rw sol v c → m c = true) ∧
  (∀ c, m c = true → ∀ p, 1 ≤ p → p ≤ 7 → tst c p = true → v p = hd c p ∨ ∃ a, 1 ≤ a ∧ tr_dsc a p ∧ o a ≠ -1)
def gh_A1 (o : Nat → Int32) : Prop := ∀ p a, 1 ≤ a → a < p → p ≤ 7 → tr_dsc a p → o p ≠ -1 → o a = -1
def gh_no (tst : Nat → Nat → Bool) (o : Nat → Int32) (c : Nat) : Prop := ∀ p, 1 ≤ p → p ≤ 7 → tst c p = true → o p = -1
def gh_PR (tst : Nat → Nat → Bool) (rw : Nat → Nat) (sol : Nat → Bool) (m : Nat → Bool) (o : Nat → Int32) : Prop := ∀ c0 c, c0 < c → m c0 = true → m c = true → gh_no tst o c0 → sol c0 = false ∧ rw c0 ≠ rw c
def gh_Red (tst : Nat → Nat → Bool) (rw : Nat → Nat) (sol : Nat → Bool) (m : Nat → Bool) (o : Nat → Int32) (m' : Nat → Bool) (o' : Nat → Int32) : Prop :=
  (∀ c, m' c = true → m c = true) ∧ (∀ c, m c = true → m' c = false → ∃ c0, c0 < c ∧ m' c0 = true ∧ gh_no tst o c0 ∧ (sol c0 = true ∨ rw c0 = rw c)) ∧
  gh_PR tst rw sol m' o ∧ (∀ p, 1 ≤ p → p ≤ 7 → (∃ c, m' c = true ∧ tst c p = true) → o' p = o p) ∧ (∀ p, 1 ≤ p → p ≤ 7 → (¬ ∃ c, m' c = true ∧ tst c p = true) → o' p = -1)
def gh_C5 (N : Nat) (tst : Nat → Nat → Bool) (hd : Nat → Nat → Int32) (rt : Int32) (fty : Int32 → Int32 → Nat → Int32) (okT : Nat → Int32 → Int32 → Prop) : Prop :=
  ∀ c, c < N → ∀ p, 1 ≤ p → p ≤ 7 → tst c p = true → (2 ≤ p → tst c (p / 2) = true) ∧ okT p (gh_ty rt fty (hd c) p) (hd c p)
theorem gh_anc (h5 : gh_C5 N tst hd rt fty okT) {c p a : Nat} (hc : c < N) (p1 : 1 ≤ p) (p7 : p ≤ 7) (ht : tst c p = true) (a1 : 1 ≤ a) (hd' : tr_dsc a p) : tst c a = true := by
  have s1 : ∀ q, 2 ≤ q → q ≤ 7 → tst c q = true → tst c (q / 2) = true := fun q q1 q2 q3 => (h5 c hc q (by omega) q2 q3).1 q1
  rcases hd' with e | e | e
  · rw [← e]; exact ht
  · rw [← e]; exact s1 p (by omega) p7 ht
  · have e2 : p / 2 / 2 = a := by omega
    rw [← e2]; exact s1 (p / 2) (by omega) (by omega) (s1 p (by omega) p7 ht)
/-- a kept clause that tests an open position has there the value's type -/
theorem gh_tyc (h5 : gh_C5 N tst hd rt fty okT) {m : Nat → Bool} {o v : Nat → Int32} (hN : ∀ c, m c = true → c < N) (G : gh_Good N tst hd rw sol rt fty m o v) (A : gh_A1 o) {p c : Nat} (p1 : 1 ≤ p) (p7 : p ≤ 7) (ho : o p ≠ -1) (hm : m c = true) (ht : tst c p = true) : gh_ty rt fty (hd c) p = gh_ty rt fty v p := by
  refine gh_tyeq p1 p7 (fun a a1 a2 a3 => ?_)
  have ta := gh_anc h5 (hN c hm) p1 p7 ht a1 a3
  rcases G.2.2 c hm a a1 (by omega) ta with e | ⟨b, b1, b2, b3⟩
  · exact e.symm
  · have hb : tr_dsc b p := by unfold tr_dsc at *; omega
    exact absurd (A p b b1 (by unfold tr_dsc at *; omega) p7 hb ho) b3
theorem gh_red_good (h5 : gh_C5 N tst hd rt fty okT) {m m' : Nat → Bool} {o o' v : Nat → Int32} (hN : ∀ c, m c = true → c < N) (G : gh_Good N tst hd rw sol rt fty m o v) (R : gh_Red tst rw sol m o m' o') : gh_Good N tst hd rw sol rt fty m' o' v := by
  obtain ⟨r1, r2, r3, r4, r5⟩ := R
  obtain ⟨g1, g2, g3⟩ := G
  refine ⟨fun p p1 p7 hp => ?_, fun c hc => ?_, fun c hc p p1 p7 ht => ?_⟩
  · by_cases z : ∃ c, m' c = true ∧ tst c p = true
    · have e := r4 p p1 p7 z
      rw [e] at hp ⊢
      exact g1 p p1 p7 hp
    · exact absurd (r5 p p1 p7 z) hp
  · cases h : m' c with
    | true => rfl
    | false =>
      exfalso
      obtain ⟨c0, c1, c2, c3, c4⟩ := r2 c (g2 c hc) h
      have hm : gh_Mt tst hd v c0 := by
        intro p p1 p7 ht
        rcases g3 c0 (r1 c0 c2) p p1 p7 ht with e | ⟨a, a1, a2, a3⟩
        · exact e
        · exact absurd (c3 a a1 (by unfold tr_dsc at a2; omega) (gh_anc h5 (hN c0 (r1 c0 c2)) p1 p7 ht a1 a2)) a3
      have := hc.2.2 c0 c1 hm
      rcases c4 with c4 | c4
      · rw [c4] at this; exact absurd this.1 (by decide)
      · exact this.2 c4
  · rcases g3 c (r1 c hc) p p1 p7 ht with e | ⟨a, a1, a2, a3⟩
    · exact Or.inl e
    · have ta := gh_anc h5 (hN c (r1 c hc)) p1 p7 ht a1 a2
      refine Or.inr ⟨a, a1, a2, ?_⟩
      rw [r4 a a1 (by unfold tr_dsc at a2; omega) ⟨c, hc, ta⟩]
      exact a3
theorem gh_red_A1 {m m' : Nat → Bool} {o o' : Nat → Int32} (A : gh_A1 o) (R : gh_Red tst rw sol m o m' o') : gh_A1 o' := by
  obtain ⟨r1, r2, r3, r4, r5⟩ := R
  intro p a a1 a2 p7 hd' hp
  by_cases z : ∃ c, m' c = true ∧ tst c p = true
  · rw [r4 p (by omega) p7 z] at hp
    by_cases z2 : ∃ c, m' c = true ∧ tst c a = true
    · rw [r4 a a1 (by omega) z2]; exact A p a a1 a2 p7 hd' hp
    · exact r5 a a1 (by omega) z2
  · exact absurd (r5 p (by omega) p7 z) hp
theorem gh_red_PR {m m' : Nat → Bool} {o o' : Nat → Int32} (R : gh_Red tst rw sol m o m' o') : gh_PR tst rw sol m' o' := by
  obtain ⟨r1, r2, r3, r4, r5⟩ := R
  intro c0 c h1 h2 h3 h4
  exact r3 c0 c h1 h2 h3 (fun p p1 p7 ht => by rw [← r4 p p1 p7 ⟨c0, h2, ht⟩]; exact h4 p p1 p7 ht)
def gh_Spec (tst : Nat → Nat → Bool) (hd : Nat → Nat → Int32) (fty : Int32 → Int32 → Nat → Int32) (m : Nat → Bool) (o : Nat → Int32) (p : Nat) (t h : Int32) (m1 : Nat → Bool) (o1 : Nat → Int32) : Prop :=
  (∀ c, m1 c = true ↔ m c = true ∧ (tst c p = true → hd c p = h)) ∧ (∀ q, 1 ≤ q → q ≤ 7 → o1 q = if q = p then -1 else if q / 2 = p then fty t h q else o q)
theorem gh_spec_A1 {m m1 : Nat → Bool} {o o1 : Nat → Int32} {p : Nat} {t h : Int32} (A : gh_A1 o) (p1 : 1 ≤ p) (ho : o p ≠ -1) (Sp : gh_Spec tst hd fty m o p t h m1 o1) : gh_A1 o1 := by
  intro q a a1 a2 q7 hd' hq
  rw [Sp.2 q (by omega) q7] at hq
  rw [Sp.2 a a1 (by omega)]
  by_cases e : a = p
  · rw [if_pos e]
  · rw [if_neg e]
    by_cases e1 : q = p
    · rw [if_pos e1] at hq; exact absurd rfl hq
    · rw [if_neg e1] at hq
      by_cases e2 : q / 2 = p
      · rw [if_neg (by unfold tr_dsc at hd'; omega)]
        exact A p a a1 (by unfold tr_dsc at hd'; omega) (by omega) (by unfold tr_dsc at *; omega) ho
      · rw [if_neg e2] at hq
        by_cases e3 : a / 2 = p
        · exact absurd (A q p p1 (by omega) q7 (by unfold tr_dsc at *; omega) hq) ho
        · rw [if_neg e3]
          exact A q a a1 a2 q7 hd' hq
theorem gh_spec_good (h5 : gh_C5 N tst hd rt fty okT) (hok : ∀ p t x, okT p t x → t ≠ -1) {m m1 : Nat → Bool} {o o1 v : Nat → Int32} {p : Nat} {t h : Int32} (hN : ∀ c, m c = true → c < N) (G : gh_Good N tst hd rw sol rt fty m o v) (A : gh_A1 o) (p1 : 1 ≤ p) (p7 : p ≤ 7) (ho : o p = t) (ht1 : t ≠ -1)
    (hK : ∀ x, okT p t x → (x = h ↔ x = v p)) (hf : ∀ q, q / 2 = p → q ≤ 7 → fty t h q = fty t (v p) q) (Sp : gh_Spec tst hd fty m o p t h m1 o1) : gh_Good N tst hd rw sol rt fty m1 o1 v := by
  have ho' : o p ≠ -1 := by rw [ho]; exact ht1
  have htv : t = gh_ty rt fty v p := ho ▸ G.1 p p1 p7 ho'
  have kk : ∀ c, m c = true → tst c p = true → (hd c p = h ↔ hd c p = v p) := by
    intro c hm htc
    refine hK _ ?_
    have := (h5 c (hN c hm) p p1 p7 htc).2
    rw [gh_tyc h5 hN G A p1 p7 ho' hm htc, ← htv] at this
    exact this
  refine ⟨fun q q1 q7 hq => ?_, fun c hc => ?_, fun c hc q q1 q7 htq => ?_⟩
  · rw [Sp.2 q q1 q7] at hq ⊢
    by_cases e1 : q = p
    · rw [if_pos e1] at hq; exact absurd rfl hq
    · rw [if_neg e1] at hq ⊢
      by_cases e2 : q / 2 = p
      · rw [if_pos e2, hf q e2 q7, gh_ty_step (by omega) q7, e2, ← htv]
      · rw [if_neg e2] at hq ⊢
        exact G.1 q q1 q7 hq
  · refine (Sp.1 c).mpr ⟨G.2.1 c hc, fun htc => ?_⟩
    exact (kk c (G.2.1 c hc) htc).mpr (hc.2.1 p p1 p7 htc).symm
  · obtain ⟨hm, hmt⟩ := (Sp.1 c).mp hc
    rcases G.2.2 c hm q q1 q7 htq with e | ⟨a, a1, a2, a3⟩
    · exact Or.inl e
    · by_cases e : a = p
      · subst e
        have tp := gh_anc h5 (hN c hm) q1 q7 htq a1 a2
        have hh := hmt tp
        by_cases e1 : q = a
        · subst e1
          exact Or.inl ((kk c hm tp).mp hh).symm
        · -- the child of a above q
          have hch : ∃ b, 1 ≤ b ∧ b ≤ 7 ∧ b / 2 = a ∧ tr_dsc b q := by
            unfold tr_dsc at a2
            rcases a2 with e2 | e2 | e2
            · exact absurd e2 e1
            · exact ⟨q, q1, q7, e2, Or.inl rfl⟩
            · exact ⟨q / 2, by omega, by omega, by omega, Or.inr (Or.inl rfl)⟩
          obtain ⟨b, b1, b7, b2, b3⟩ := hch
          have tb := gh_anc h5 (hN c hm) q1 q7 htq b1 b3
          have hb := hok _ _ _ (h5 c (hN c hm) b b1 b7 tb).2
          rw [gh_ty_step (by omega) b7, b2, gh_tyc h5 hN G A a1 p7 ho' hm tp, ← htv, hh] at hb
          refine Or.inr ⟨b, b1, b3, ?_⟩
          rw [Sp.2 b b1 b7, if_neg (by omega), if_pos b2]
          exact hb
      · refine Or.inr ⟨a, a1, a2, ?_⟩
        rw [Sp.2 a a1 (by unfold tr_dsc at a2; omega), if_neg e, if_neg]
        · exact a3
        · intro e2
          exact ho' (A a p p1 (by omega) (by unfold tr_dsc at a2; omega) (by unfold tr_dsc; omega) a3)
theorem gh_leaf (h5 : gh_C5 N tst hd rt fty okT) {m : Nat → Bool} {o v : Nat → Int32} (hN : ∀ c, m c = true → c < N) (hsol : ∀ c c', rw c = rw c' → sol c = sol c') (G : gh_Good N tst hd rw sol rt fty m o v) (P : gh_PR tst rw sol m o) (hl : ∀ c, m c = true → gh_no tst o c) (c : Nat) : m c = true ↔ gh_Sel N tst hd rw sol v c := by
  refine ⟨fun hm => ?_, G.2.1 c⟩
  refine ⟨hN c hm, fun p p1 p7 ht => ?_, fun c0 h0 hm0 => ?_⟩
  · rcases G.2.2 c hm p p1 p7 ht with e | ⟨a, a1, a2, a3⟩
    · exact e
    · exact absurd (hl c hm a a1 (by unfold tr_dsc at a2; omega) (gh_anc h5 (hN c hm) p1 p7 ht a1 a2)) a3
  · apply Classical.byContradiction
    intro hcon
    have hex : ∃ b, b < c ∧ gh_Mt tst hd v b ∧ ¬ (sol b = false ∧ rw b ≠ rw c) := ⟨c0, h0, hm0, hcon⟩
    obtain ⟨b, ⟨b1, b2, b3⟩, b4⟩ := pk_least _ hex
    have hs : gh_Sel N tst hd rw sol v b := by
      refine ⟨Nat.lt_trans b1 (hN c hm), b2, fun c1 h1 hm1 => ?_⟩
      have h4 : sol c1 = false ∧ rw c1 ≠ rw c := Classical.byContradiction (fun z => b4 c1 h1 ⟨by omega, hm1, z⟩)
      refine ⟨h4.1, fun e => ?_⟩
      apply b3
      refine ⟨?_, fun e2 => h4.2 (e.trans e2)⟩
      rw [← hsol c1 b e]; exact h4.1
    have mb := G.2.1 b hs
    exact b3 (P b c b1 mb hm (hl b mb))
/-! shapes -/
def gh_Sh (rt : Int32) (fty : Int32 → Int32 → Nat → Int32) (cn : Nat → Int32 → Nat) (cd : Nat → Int32 → Nat → Int32) (v : Nat → Int32) : Prop :=
  ∀ p, 1 ≤ p → p ≤ 7 → (gh_ty rt fty v p = -1 → v p = 0) ∧ (gh_ty rt fty v p ≠ -1 → ∃ i, i < cn p (gh_ty rt fty v p) ∧ v p = cd p (gh_ty rt fty v p) i)
def gh_f0 (cd : Nat → Int32 → Nat → Int32) (q : Nat) (t : Int32) : Int32 := if t = -1 then 0 else cd q t 0
def gh_re (fty : Int32 → Int32 → Nat → Int32) (cd : Nat → Int32 → Nat → Int32) (v : Nat → Int32) (p : Nat) (T x : Int32) (q : Nat) : Int32 :=
  if q = p then x else if q / 2 = p then gh_f0 cd q (fty T x q) else if q / 4 = p then gh_f0 cd q (fty (fty T x (q / 2)) (gh_f0 cd (q / 2) (fty T x (q / 2))) q) else v q
theorem gh_re_off {fty : Int32 → Int32 → Nat → Int32} {cd : Nat → Int32 → Nat → Int32} {v : Nat → Int32} {p q : Nat} {T x : Int32} (h : ¬ tr_dsc p q) : gh_re fty cd v p T x q = v q := by
  unfold tr_dsc at h; unfold gh_re
  rw [if_neg (by omega), if_neg (by omega), if_neg (by omega)]
theorem gh_re_at {fty : Int32 → Int32 → Nat → Int32} {cd : Nat → Int32 → Nat → Int32} {v : Nat → Int32} {p : Nat} {T x : Int32} : gh_re fty cd v p T x p = x := if_pos rfl
theorem gh_f0_ok {cn : Nat → Int32 → Nat} {cd : Nat → Int32 → Nat → Int32} {q : Nat} {t : Int32} (h : t ≠ -1 → 0 < cn q t) : (t = -1 → gh_f0 cd q t = 0) ∧ (t ≠ -1 → ∃ i, i < cn q t ∧ gh_f0 cd q t = cd q t i) := by
  unfold gh_f0
  exact ⟨fun e => if_pos e, fun e => ⟨0, h e, if_neg e⟩⟩
theorem gh_re_Sh {rt : Int32} {fty : Int32 → Int32 → Nat → Int32} {cn : Nat → Int32 → Nat} {cd : Nat → Int32 → Nat → Int32} {v : Nat → Int32} {p i : Nat} (hS : ∀ q, 1 ≤ q → q ≤ 7 → ¬ tr_dsc p q → (gh_ty rt fty v q = -1 → v q = 0) ∧ (gh_ty rt fty v q ≠ -1 → ∃ i, i < cn q (gh_ty rt fty v q) ∧ v q = cd q (gh_ty rt fty v q) i)) (hcn : ∀ q t c, 2 ≤ q → q ≤ 7 → fty t c q ≠ -1 → 0 < cn q (fty t c q)) (p1 : 1 ≤ p) (p7 : p ≤ 7) (hT : gh_ty rt fty v p ≠ -1) (hi : i < cn p (gh_ty rt fty v p)) :
    gh_Sh rt fty cn cd (gh_re fty cd v p (gh_ty rt fty v p) (cd p (gh_ty rt fty v p) i)) := by
  intro q q1 q7
  have tyoff : ∀ q, 1 ≤ q → q ≤ 7 → (¬ tr_dsc p q ∨ q = p) → gh_ty rt fty (gh_re fty cd v p (gh_ty rt fty v p) (cd p (gh_ty rt fty v p) i)) q = gh_ty rt fty v q := by
    intro q q1 q7 hq
    refine gh_tyeq q1 q7 (fun a a1 a2 a3 => gh_re_off (fun z => ?_))
    unfold tr_dsc at *
    omega
  by_cases e : tr_dsc p q
  · by_cases e1 : q = p
    · subst e1
      rw [tyoff q q1 q7 (Or.inr rfl), gh_re_at]
      exact ⟨fun z => absurd z hT, fun _ => ⟨i, hi, rfl⟩⟩
    · by_cases e2 : q / 2 = p
      · have ht : gh_ty rt fty (gh_re fty cd v p (gh_ty rt fty v p) (cd p (gh_ty rt fty v p) i)) q = fty (gh_ty rt fty v p) (cd p (gh_ty rt fty v p) i) q := by
          rw [gh_ty_step (by omega) q7, e2, tyoff p p1 p7 (Or.inr rfl), gh_re_at]
        have hv : gh_re fty cd v p (gh_ty rt fty v p) (cd p (gh_ty rt fty v p) i) q = gh_f0 cd q (fty (gh_ty rt fty v p) (cd p (gh_ty rt fty v p) i) q) := by
          unfold gh_re
          rw [if_neg e1, if_pos e2]
        rw [ht, hv]
        exact gh_f0_ok (hcn q _ _ (by omega) q7)
      · have e3 : q / 4 = p := by unfold tr_dsc at e; omega
        have e4 : q / 2 / 2 = p := by omega
        have hv2 : gh_re fty cd v p (gh_ty rt fty v p) (cd p (gh_ty rt fty v p) i) (q / 2) = gh_f0 cd (q / 2) (fty (gh_ty rt fty v p) (cd p (gh_ty rt fty v p) i) (q / 2)) := by
          unfold gh_re
          rw [if_neg (by omega), if_pos e4]
        have ht : gh_ty rt fty (gh_re fty cd v p (gh_ty rt fty v p) (cd p (gh_ty rt fty v p) i)) q = fty (fty (gh_ty rt fty v p) (cd p (gh_ty rt fty v p) i) (q / 2)) (gh_f0 cd (q / 2) (fty (gh_ty rt fty v p) (cd p (gh_ty rt fty v p) i) (q / 2))) q := by
          rw [gh_ty_step (by omega) q7, hv2, gh_ty_step (p := q / 2) (by omega) (by omega), e4, tyoff p p1 p7 (Or.inr rfl), gh_re_at]
        have hv : gh_re fty cd v p (gh_ty rt fty v p) (cd p (gh_ty rt fty v p) i) q = gh_f0 cd q (fty (fty (gh_ty rt fty v p) (cd p (gh_ty rt fty v p) i) (q / 2)) (gh_f0 cd (q / 2) (fty (gh_ty rt fty v p) (cd p (gh_ty rt fty v p) i) (q / 2))) q) := by
          conv => lhs; unfold gh_re
          rw [if_neg e1, if_neg e2, if_pos e3]
        rw [ht, hv]
        exact gh_f0_ok (hcn q _ _ (by omega) q7)
  · rw [tyoff q q1 q7 (Or.inl e), gh_re_off e]
    exact hS q q1 q7 e
/-- claims: a shape that reaches the state, and all values like it outside of what is open -/
def gh_Cl (N : Nat) (tst : Nat → Nat → Bool) (hd : Nat → Nat → Int32) (rw : Nat → Nat) (sol : Nat → Bool) (rt : Int32) (fty : Int32 → Int32 → Nat → Int32) (cn : Nat → Int32 → Nat) (cd : Nat → Int32 → Nat → Int32) (Pv : (Nat → Int32) → Prop) (m : Nat → Bool) (o : Nat → Int32) : Prop :=
  ∃ v0, gh_Sh rt fty cn cd v0 ∧ Pv v0 ∧ ∀ v, (∀ p, 1 ≤ p → p ≤ 7 → (¬ ∃ a, 1 ≤ a ∧ tr_dsc a p ∧ o a ≠ -1) → v p = v0 p) → gh_Good N tst hd rw sol rt fty m o v
theorem gh_cl_good {cn : Nat → Int32 → Nat} {cd : Nat → Int32 → Nat → Int32} {Pv : (Nat → Int32) → Prop} {m : Nat → Bool} {o : Nat → Int32} (h : gh_Cl N tst hd rw sol rt fty cn cd Pv m o) : ∃ v0, gh_Sh rt fty cn cd v0 ∧ Pv v0 ∧ gh_Good N tst hd rw sol rt fty m o v0 := by
  obtain ⟨v0, a, b, c⟩ := h
  exact ⟨v0, a, b, c v0 (fun _ _ _ _ => rfl)⟩
theorem gh_cl_red (h5 : gh_C5 N tst hd rt fty okT) {cn : Nat → Int32 → Nat} {cd : Nat → Int32 → Nat → Int32} {Pv : (Nat → Int32) → Prop} {m m' : Nat → Bool} {o o' : Nat → Int32} (hN : ∀ c, m c = true → c < N) (h : gh_Cl N tst hd rw sol rt fty cn cd Pv m o) (R : gh_Red tst rw sol m o m' o') : gh_Cl N tst hd rw sol rt fty cn cd Pv m' o' := by
  obtain ⟨v0, a, b, c⟩ := h
  refine ⟨v0, a, b, fun v hv => gh_red_good h5 hN (c v (fun p p1 p7 hp => hv p p1 p7 (fun ⟨x, x1, x2, x3⟩ => hp ⟨x, x1, x2, fun z => x3 ?_⟩))) R⟩
  by_cases w : ∃ c, m' c = true ∧ tst c x = true
  · rw [R.2.2.2.1 x x1 (by unfold tr_dsc at x2; omega) w]; exact z
  · exact R.2.2.2.2 x x1 (by unfold tr_dsc at x2; omega) w
theorem gh_cl_spec (h5 : gh_C5 N tst hd rt fty okT) (hok : ∀ p t x, okT p t x → t ≠ -1) {cn : Nat → Int32 → Nat} {cd : Nat → Int32 → Nat → Int32} {Pv : (Nat → Int32) → Prop} (hcn : ∀ q t c, 2 ≤ q → q ≤ 7 → fty t c q ≠ -1 → 0 < cn q (fty t c q)) {m m1 : Nat → Bool} {o o1 : Nat → Int32} {p i : Nat} {t : Int32} (hN : ∀ c, m c = true → c < N) (A : gh_A1 o) (p1 : 1 ≤ p) (p7 : p ≤ 7) (ho : o p = t) (ht1 : t ≠ -1) (hi : i < cn p t)
    (hPv : ∀ v0, gh_Sh rt fty cn cd v0 → gh_ty rt fty v0 p = t → Pv v0 → v0 p = cd p t i ∨ Pv (gh_re fty cd v0 p t (cd p t i)))
    (Sp : gh_Spec tst hd fty m o p t (cd p t i) m1 o1) (h : gh_Cl N tst hd rw sol rt fty cn cd Pv m o) : gh_Cl N tst hd rw sol rt fty cn cd Pv m1 o1 := by
  obtain ⟨v0, a, b, c⟩ := h
  have ho' : o p ≠ -1 := by rw [ho]; exact ht1
  have htv : gh_ty rt fty v0 p = t := ((c v0 (fun _ _ _ _ => rfl)).1 p p1 p7 ho').symm.trans ho
  have hex : ∃ v1, gh_Sh rt fty cn cd v1 ∧ Pv v1 ∧ v1 p = cd p t i ∧ ∀ q, ¬ tr_dsc p q → v1 q = v0 q := by
    by_cases e : v0 p = cd p t i
    · exact ⟨v0, a, b, e, fun _ _ => rfl⟩
    · refine ⟨gh_re fty cd v0 p t (cd p t i), ?_, (hPv v0 a htv b).resolve_left e, gh_re_at, fun q hq => gh_re_off hq⟩
      have := gh_re_Sh (i := i) (fun q q1 q7 _ => a q q1 q7) hcn p1 p7 (by rw [htv]; exact ht1) (by rw [htv]; exact hi)
      rw [htv] at this
      exact this
  obtain ⟨v1, b1, b2, b3, b4⟩ := hex
  refine ⟨v1, b1, b2, fun v hv => ?_⟩
  have sub : ∀ q, 1 ≤ q → q ≤ 7 → (∃ a, 1 ≤ a ∧ tr_dsc a q ∧ o1 a ≠ -1) → ∃ a, 1 ≤ a ∧ tr_dsc a q ∧ o a ≠ -1 := by
    rintro q q1 q7 ⟨x, x1, x2, x3⟩
    rw [Sp.2 x x1 (by unfold tr_dsc at x2; omega)] at x3
    by_cases e1 : x = p
    · rw [if_pos e1] at x3; exact absurd rfl x3
    · rw [if_neg e1] at x3
      by_cases e2 : x / 2 = p
      · exact ⟨p, p1, by unfold tr_dsc at *; omega, ho'⟩
      · rw [if_neg e2] at x3; exact ⟨x, x1, x2, x3⟩
  have vp : v p = cd p t i := by
    rw [← b3]
    refine hv p p1 p7 (fun ⟨x, x1, x2, x3⟩ => ?_)
    rw [Sp.2 x x1 (by unfold tr_dsc at x2; omega)] at x3
    by_cases e1 : x = p
    · rw [if_pos e1] at x3; exact x3 rfl
    · rw [if_neg e1, if_neg (by unfold tr_dsc at x2; omega)] at x3
      exact x3 (A p x x1 (by unfold tr_dsc at x2; omega) p7 x2 ho')
  have G := c v (fun q q1 q7 hq => by
    rw [hv q q1 q7 (fun z => hq (sub q q1 q7 z))]
    exact b4 q (fun z => hq ⟨p, p1, z, ho'⟩))
  exact gh_spec_good h5 hok hN G A p1 p7 ho ht1 (fun x _ => by rw [vp]) (fun q _ _ => by rw [vp]) Sp
end
end
section
section
variable {rt : Int32} {fty : Int32 → Int32 → Nat → Int32} {cn : Nat → Int32 → Nat} {cd : Nat → Int32 → Nat → Int32}
/-! measures of what is open; the order of the shapes -/
def gh_z (x : Int32) : Nat := if x = -1 then 0 else 1
def gh_mu (o : Nat → Int32) : Nat := 7 * gh_z (o 1) + 3 * gh_z (o 2) + 3 * gh_z (o 3) + gh_z (o 4) + gh_z (o 5) + gh_z (o 6) + gh_z (o 7)
def gh_g (w : Nat) (x : Int32) : Nat := if x = -1 then 1 else w
def gh_W (o : Nat → Int32) : Nat := gh_g 2187 (o 1) * (gh_g 27 (o 2) * (gh_g 27 (o 3) * (gh_g 3 (o 4) * (gh_g 3 (o 5) * (gh_g 3 (o 6) * gh_g 3 (o 7))))))
theorem gh_z1 (x : Int32) : gh_z x ≤ 1 := by unfold gh_z; split <;> omega
theorem gh_zo {x : Int32} (h : x ≠ -1) : gh_z x = 1 := if_neg h
theorem gh_zc : gh_z (-1) = 0 := if_pos rfl
theorem gh_go {w : Nat} {x : Int32} (h : x ≠ -1) : gh_g w x = w := if_neg h
theorem gh_gc {w : Nat} : gh_g w (-1) = 1 := if_pos rfl
theorem gh_gp {w : Nat} (hw : 0 < w) (x : Int32) : 0 < gh_g w x := by unfold gh_g; split <;> omega
theorem gh_gl {w : Nat} (hw : 0 < w) (x : Int32) : gh_g w x ≤ w := by unfold gh_g; split <;> omega
theorem gh_7 {p : Nat} (p1 : 1 ≤ p) (p7 : p ≤ 7) : p = 1 ∨ p = 2 ∨ p = 3 ∨ p = 4 ∨ p = 5 ∨ p = 6 ∨ p = 7 := by omega
theorem gh_mono {o o' : Nat → Int32} (h : ∀ p, 1 ≤ p → p ≤ 7 → o' p = o p ∨ o' p = -1) : gh_W o' ≤ gh_W o ∧ gh_mu o' ≤ gh_mu o := by
  have hg : ∀ p w, 0 < w → 1 ≤ p → p ≤ 7 → gh_g w (o' p) ≤ gh_g w (o p) := by
    intro p w hw a b
    rcases h p a b with e | e
    · rw [e]; exact Nat.le_refl _
    · rw [e, gh_gc]; exact gh_gp hw _
  have hz : ∀ p, 1 ≤ p → p ≤ 7 → gh_z (o' p) ≤ gh_z (o p) := by
    intro p a b
    rcases h p a b with e | e
    · rw [e]; exact Nat.le_refl _
    · rw [e, gh_zc]; exact Nat.zero_le _
  constructor
  · unfold gh_W
    exact Nat.mul_le_mul (hg 1 _ (by decide) (by decide) (by decide)) (Nat.mul_le_mul (hg 2 _ (by decide) (by decide) (by decide)) (Nat.mul_le_mul (hg 3 _ (by decide) (by decide) (by decide)) (Nat.mul_le_mul (hg 4 _ (by decide) (by decide) (by decide)) (Nat.mul_le_mul (hg 5 _ (by decide) (by decide) (by decide)) (Nat.mul_le_mul (hg 6 _ (by decide) (by decide) (by decide)) (hg 7 _ (by decide) (by decide) (by decide)))))))
  · unfold gh_mu
    have h1 := hz 1 (by decide) (by decide)
    have h2 := hz 2 (by decide) (by decide)
    have h3 := hz 3 (by decide) (by decide)
    have h4 := hz 4 (by decide) (by decide)
    have h5 := hz 5 (by decide) (by decide)
    have h6 := hz 6 (by decide) (by decide)
    have h7 := hz 7 (by decide) (by decide)
    omega
def gh_St (fty : Int32 → Int32 → Nat → Int32) (o : Nat → Int32) (p : Nat) (t h : Int32) (o1 : Nat → Int32) : Prop := ∀ q, 1 ≤ q → q ≤ 7 → o1 q = if q = p then -1 else if q / 2 = p then fty t h q else o q
theorem gh_mu_step {fty : Int32 → Int32 → Nat → Int32} {o o1 : Nat → Int32} {p : Nat} {t h : Int32} (p1 : 1 ≤ p) (p7 : p ≤ 7) (ho : o p ≠ -1) (Sp : gh_St fty o p t h o1) : gh_mu o1 < gh_mu o := by
  have e1 := Sp 1 (by decide) (by decide)
  have e2 := Sp 2 (by decide) (by decide)
  have e3 := Sp 3 (by decide) (by decide)
  have e4 := Sp 4 (by decide) (by decide)
  have e5 := Sp 5 (by decide) (by decide)
  have e6 := Sp 6 (by decide) (by decide)
  have e7 := Sp 7 (by decide) (by decide)
  have hz := gh_zo ho
  unfold gh_mu
  rcases gh_7 p1 p7 with rfl | rfl | rfl | rfl | rfl | rfl | rfl <;> simp at e1 e2 e3 e4 e5 e6 e7 <;> rw [e1, e2, e3, e4, e5, e6, e7, hz, gh_zc]
  · have := gh_z1 (fty t h 2); have := gh_z1 (fty t h 3); omega
  · have := gh_z1 (fty t h 4); have := gh_z1 (fty t h 5); omega
  · have := gh_z1 (fty t h 6); have := gh_z1 (fty t h 7); omega
  · omega
  · omega
  · omega
  · omega
theorem gh_lift {k x y z : Nat} (h : k * y ≤ z) : k * (x * y) ≤ x * z := by rw [Nat.mul_left_comm]; exact Nat.mul_le_mul_left _ h
theorem gh_two {w x y R a b : Nat} (hx : x ≤ w) (hy : y ≤ w) (ha : 0 < a) (hb : 0 < b) : x * (y * R) ≤ (w * w) * (a * (b * R)) := by
  have h1 : x * (y * R) ≤ w * (w * R) := Nat.mul_le_mul hx (Nat.mul_le_mul_right _ hy)
  have h2 : R ≤ a * (b * R) := Nat.le_trans (Nat.le_mul_of_pos_left R hb) (Nat.le_mul_of_pos_left _ ha)
  have h3 : (w * w) * R ≤ (w * w) * (a * (b * R)) := Nat.mul_le_mul_left _ h2
  rw [Nat.mul_assoc w w R] at h3
  exact Nat.le_trans h1 h3
def gh_wt (p : Nat) : Nat := if p = 1 then 2187 else if p ≤ 3 then 27 else 3
theorem gh_W_step {fty : Int32 → Int32 → Nat → Int32} {o o1 : Nat → Int32} {p : Nat} {t h : Int32} (p1 : 1 ≤ p) (p7 : p ≤ 7) (ho : o p ≠ -1) (Sp : gh_St fty o p t h o1) : 3 * gh_W o1 ≤ gh_W o := by
  have e1 := Sp 1 (by decide) (by decide)
  have e2 := Sp 2 (by decide) (by decide)
  have e3 := Sp 3 (by decide) (by decide)
  have e4 := Sp 4 (by decide) (by decide)
  have e5 := Sp 5 (by decide) (by decide)
  have e6 := Sp 6 (by decide) (by decide)
  have e7 := Sp 7 (by decide) (by decide)
  unfold gh_W
  rcases gh_7 p1 p7 with rfl | rfl | rfl | rfl | rfl | rfl | rfl <;> simp at e1 e2 e3 e4 e5 e6 e7 <;> rw [e1, e2, e3, e4, e5, e6, e7, gh_go ho, gh_gc]
  · have := gh_two (R := gh_g 3 (o 4) * (gh_g 3 (o 5) * (gh_g 3 (o 6) * gh_g 3 (o 7)))) (gh_gl (w := 27) (by decide) (fty t h 2)) (gh_gl (w := 27) (by decide) (fty t h 3)) (gh_gp (w := 27) (by decide) (o 2)) (gh_gp (w := 27) (by decide) (o 3))
    omega
  · refine gh_lift ?_
    have h1 := gh_two (R := gh_g 3 (o 6) * gh_g 3 (o 7)) (gh_gl (w := 3) (by decide) (fty t h 4)) (gh_gl (w := 3) (by decide) (fty t h 5)) (gh_gp (w := 3) (by decide) (o 4)) (gh_gp (w := 3) (by decide) (o 5))
    have h2 := Nat.mul_le_mul_left (gh_g 27 (o 3)) h1
    rw [Nat.mul_left_comm (gh_g 27 (o 3)) (3 * 3)] at h2
    omega
  · refine gh_lift (gh_lift ?_)
    have h1 := gh_two (R := 1) (gh_gl (w := 3) (by decide) (fty t h 6)) (gh_gl (w := 3) (by decide) (fty t h 7)) (gh_gp (w := 3) (by decide) (o 6)) (gh_gp (w := 3) (by decide) (o 7))
    rw [Nat.mul_one, Nat.mul_one] at h1
    have h2 := Nat.mul_le_mul_left (gh_g 3 (o 4)) (Nat.mul_le_mul_left (gh_g 3 (o 5)) h1)
    rw [Nat.mul_left_comm (gh_g 3 (o 5)) (3 * 3), Nat.mul_left_comm (gh_g 3 (o 4)) (3 * 3)] at h2
    omega
  · refine gh_lift (gh_lift (gh_lift ?_)); omega
  · refine gh_lift (gh_lift (gh_lift (gh_lift ?_))); omega
  · refine gh_lift (gh_lift (gh_lift (gh_lift (gh_lift ?_)))); omega
  · refine gh_lift (gh_lift (gh_lift (gh_lift (gh_lift (gh_lift ?_))))); omega
theorem gh_W_int {fty : Int32 → Int32 → Nat → Int32} {o o1 : Nat → Int32} {p : Nat} {t h : Int32} (p1 : 1 ≤ p) (p7 : p ≤ 7) (ho : o p ≠ -1) (Sp : gh_St fty o p t h o1) (hno : ∀ q, q / 2 = p → q ≤ 7 → fty t h q = -1) : gh_wt p * gh_W o1 ≤ gh_W o := by
  by_cases p3 : p ≤ 3
  · have e1 := Sp 1 (by decide) (by decide)
    have e2 := Sp 2 (by decide) (by decide)
    have e3 := Sp 3 (by decide) (by decide)
    have e4 := Sp 4 (by decide) (by decide)
    have e5 := Sp 5 (by decide) (by decide)
    have e6 := Sp 6 (by decide) (by decide)
    have e7 := Sp 7 (by decide) (by decide)
    have hp : p = 1 ∨ p = 2 ∨ p = 3 := by omega
    unfold gh_W gh_wt
    rcases hp with rfl | rfl | rfl <;> simp at e1 e2 e3 e4 e5 e6 e7
    · rw [hno 2 (by decide) (by decide)] at e2
      rw [hno 3 (by decide) (by decide)] at e3
      rw [e1, e2, e3, e4, e5, e6, e7, gh_go ho, gh_gc, gh_gc, if_pos rfl]
      have := gh_two (w := 1) (R := gh_g 3 (o 4) * (gh_g 3 (o 5) * (gh_g 3 (o 6) * gh_g 3 (o 7)))) (Nat.le_refl 1) (Nat.le_refl 1) (gh_gp (w := 27) (by decide) (o 2)) (gh_gp (w := 27) (by decide) (o 3))
      omega
    · rw [hno 4 (by decide) (by decide)] at e4
      rw [hno 5 (by decide) (by decide)] at e5
      rw [e1, e2, e3, e4, e5, e6, e7, gh_go ho, gh_gc, gh_gc, if_neg (by decide), if_pos (by decide)]
      refine gh_lift ?_
      have h1 := gh_two (w := 1) (R := gh_g 3 (o 6) * gh_g 3 (o 7)) (Nat.le_refl 1) (Nat.le_refl 1) (gh_gp (w := 3) (by decide) (o 4)) (gh_gp (w := 3) (by decide) (o 5))
      have h2 := Nat.mul_le_mul_left (gh_g 27 (o 3)) h1
      simp only [Nat.one_mul, Nat.mul_one] at h2 ⊢
      exact Nat.mul_le_mul_left _ h2
    · rw [hno 6 (by decide) (by decide)] at e6
      rw [hno 7 (by decide) (by decide)] at e7
      rw [e1, e2, e3, e4, e5, e6, e7, gh_go ho, gh_gc, gh_gc, if_neg (by decide), if_pos (by decide)]
      refine gh_lift (gh_lift ?_)
      have h1 := gh_two (w := 1) (R := 1) (Nat.le_refl 1) (Nat.le_refl 1) (gh_gp (w := 3) (by decide) (o 6)) (gh_gp (w := 3) (by decide) (o 7))
      rw [Nat.mul_one, Nat.mul_one] at h1
      have h2 := Nat.mul_le_mul_left (gh_g 3 (o 4)) (Nat.mul_le_mul_left (gh_g 3 (o 5)) h1)
      simp only [Nat.one_mul, Nat.mul_one] at h2 ⊢
      exact Nat.mul_le_mul_left _ h2
  · have e : gh_wt p = 3 := by unfold gh_wt; rw [if_neg (by omega), if_neg p3]
    rw [e]
    exact gh_W_step p1 p7 ho Sp
theorem gh_Wpos (o : Nat → Int32) : 0 < gh_W o := by
  unfold gh_W
  exact Nat.mul_pos (gh_gp (by decide) _) (Nat.mul_pos (gh_gp (by decide) _) (Nat.mul_pos (gh_gp (by decide) _) (Nat.mul_pos (gh_gp (by decide) _) (Nat.mul_pos (gh_gp (by decide) _) (Nat.mul_pos (gh_gp (by decide) _) (gh_gp (by decide) _))))))
/-- the frontier: the positions from p on whose parents lie before p -/
def sh_fr (rt : Int32) (fty : Int32 → Int32 → Nat → Int32) (v : Nat → Int32) (p q : Nat) : Int32 := if p ≤ q ∧ q / 2 < p then gh_ty rt fty v q else -1
theorem sh_fr_step {v : Nat → Int32} {p : Nat} (p1 : 1 ≤ p) (p7 : p ≤ 7) : gh_St fty (sh_fr rt fty v p) p (gh_ty rt fty v p) (v p) (sh_fr rt fty v (p + 1)) := by
  intro q q1 q7
  unfold sh_fr
  by_cases e1 : q = p
  · rw [if_pos e1, if_neg (by omega)]
  · rw [if_neg e1]
    by_cases e2 : q / 2 = p
    · rw [if_pos e2, if_pos (by omega), gh_ty_step (by omega) q7, e2]
    · rw [if_neg e2]
      by_cases e3 : p ≤ q ∧ q / 2 < p
      · rw [if_pos e3, if_pos (by omega)]
      · rw [if_neg e3, if_neg (by omega)]
theorem sh_fr_none (hf : ∀ c q, fty (-1) c q = -1) {v : Nat → Int32} {p : Nat} (p1 : 1 ≤ p) (p7 : p ≤ 7) (ht : gh_ty rt fty v p = -1) : gh_W (sh_fr rt fty v (p + 1)) ≤ gh_W (sh_fr rt fty v p) := by
  refine (gh_mono (fun q q1 q7 => ?_)).1
  rw [sh_fr_step p1 p7 q q1 q7, ht]
  by_cases e1 : q = p
  · rw [if_pos e1]; exact Or.inr rfl
  · rw [if_neg e1]
    by_cases e2 : q / 2 = p
    · rw [if_pos e2, hf]; exact Or.inr rfl
    · rw [if_neg e2]; exact Or.inl rfl
def sh_ag (p : Nat) (u v : Nat → Int32) : Prop := ∀ q, 1 ≤ q → q < p → u q = v q
theorem sh_ag_ty {u v : Nat → Int32} {p q : Nat} (h : sh_ag p u v) (q1 : 1 ≤ q) (q7 : q ≤ 7) (hq : q / 2 < p) : gh_ty rt fty u q = gh_ty rt fty v q :=
  gh_tyeq q1 q7 (fun a a1 a2 a3 => h a a1 (by unfold tr_dsc at a3; omega))
theorem sh_fr_ag {u v : Nat → Int32} {p : Nat} (h : sh_ag p u v) : gh_W (sh_fr rt fty u p) = gh_W (sh_fr rt fty v p) := by
  have e : ∀ q, 1 ≤ q → q ≤ 7 → sh_fr rt fty u p q = sh_fr rt fty v p q := by
    intro q q1 q7
    unfold sh_fr
    by_cases c : p ≤ q ∧ q / 2 < p
    · rw [if_pos c, if_pos c]; exact sh_ag_ty h q1 q7 c.2
    · rw [if_neg c, if_neg c]
  unfold gh_W
  rw [e 1 (by decide) (by decide), e 2 (by decide) (by decide), e 3 (by decide) (by decide), e 4 (by decide) (by decide), e 5 (by decide) (by decide), e 6 (by decide) (by decide), e 7 (by decide) (by decide)]
noncomputable def sh_ix (rt : Int32) (fty : Int32 → Int32 → Nat → Int32) (cn : Nat → Int32 → Nat) (cd : Nat → Int32 → Nat → Int32) (v : Nat → Int32) (p : Nat) : Nat :=
  @dite Nat (∃ i, i < cn p (gh_ty rt fty v p) ∧ v p = cd p (gh_ty rt fty v p) i) (Classical.propDecidable _) (fun h => Classical.choose h) (fun _ => 0)
def sh_inj (cn : Nat → Int32 → Nat) (cd : Nat → Int32 → Nat → Int32) : Prop := ∀ p t i j, 1 ≤ p → p ≤ 7 → t ≠ -1 → i < cn p t → j < cn p t → cd p t i = cd p t j → i = j
theorem sh_ix_eq (hi : sh_inj cn cd) {v : Nat → Int32} {p i : Nat} (p1 : 1 ≤ p) (p7 : p ≤ 7) (ht : gh_ty rt fty v p ≠ -1) (h1 : i < cn p (gh_ty rt fty v p)) (h2 : v p = cd p (gh_ty rt fty v p) i) : sh_ix rt fty cn cd v p = i := by
  have hx : ∃ i, i < cn p (gh_ty rt fty v p) ∧ v p = cd p (gh_ty rt fty v p) i := ⟨i, h1, h2⟩
  have e : sh_ix rt fty cn cd v p = Classical.choose hx := by unfold sh_ix; exact dif_pos hx
  rw [e]
  exact hi p _ _ _ p1 p7 ht (Classical.choose_spec hx).1 h1 ((Classical.choose_spec hx).2.symm.trans h2)
def sh_w (p : Nat) (t : Int32) : Nat := if t = 0 then gh_wt p else 3
noncomputable def sh_rk (rt : Int32) (fty : Int32 → Int32 → Nat → Int32) (cn : Nat → Int32 → Nat) (cd : Nat → Int32 → Nat → Int32) (v : Nat → Int32) : Nat → Nat
  | 0 => 0
  | j + 1 => (if gh_ty rt fty v (7 - j) = -1 then 0 else sh_ix rt fty cn cd v (7 - j) * (gh_W (sh_fr rt fty v (7 - j)) / sh_w (7 - j) (gh_ty rt fty v (7 - j)))) + sh_rk rt fty cn cd v j
theorem sh_rk_s {v : Nat → Int32} {j : Nat} : sh_rk rt fty cn cd v (j + 1) = (if gh_ty rt fty v (7 - j) = -1 then 0 else sh_ix rt fty cn cd v (7 - j) * (gh_W (sh_fr rt fty v (7 - j)) / sh_w (7 - j) (gh_ty rt fty v (7 - j)))) + sh_rk rt fty cn cd v j := rfl
theorem sh_wpos (p : Nat) (t : Int32) : 0 < sh_w p t := by unfold sh_w gh_wt; split <;> (try split) <;> (try split) <;> omega
def sh_few (cn : Nat → Int32 → Nat) : Prop := ∀ p t, 1 ≤ p → p ≤ 7 → cn p t ≤ sh_w p t
theorem sh_step (hf0 : ∀ c q, fty 0 c q = -1) {v : Nat → Int32} {p : Nat} (p1 : 1 ≤ p) (p7 : p ≤ 7) (ht : gh_ty rt fty v p ≠ -1) : gh_W (sh_fr rt fty v (p + 1)) ≤ gh_W (sh_fr rt fty v p) / sh_w p (gh_ty rt fty v p) := by
  rw [Nat.le_div_iff_mul_le (sh_wpos _ _), Nat.mul_comm]
  have ho : sh_fr rt fty v p p ≠ -1 := by unfold sh_fr; rw [if_pos (by omega)]; exact ht
  unfold sh_w
  by_cases e : gh_ty rt fty v p = 0
  · rw [if_pos e]
    exact gh_W_int p1 p7 ho (sh_fr_step p1 p7) (fun q _ _ => by rw [e]; exact hf0 _ _)
  · rw [if_neg e]
    exact gh_W_step p1 p7 ho (sh_fr_step p1 p7)
theorem sh_rk_lt (hi : sh_inj cn cd) (hw : sh_few cn) (hf0 : ∀ c q, fty 0 c q = -1) (hf1 : ∀ c q, fty (-1) c q = -1) {v : Nat → Int32} (hS : gh_Sh rt fty cn cd v) : ∀ j, j ≤ 7 → sh_rk rt fty cn cd v j < gh_W (sh_fr rt fty v (8 - j)) := by
  intro j
  induction j with
  | zero => intro _; exact gh_Wpos _
  | succ j ih =>
    intro hj
    have h1 := ih (by omega)
    have e8 : 8 - (j + 1) = 7 - j := by omega
    have e7 : 8 - j = 7 - j + 1 := by omega
    rw [e8]
    rw [e7] at h1
    unfold sh_rk
    by_cases ht : gh_ty rt fty v (7 - j) = -1
    · rw [if_pos ht]
      have := sh_fr_none (v := v) hf1 (p := 7 - j) (by omega) (by omega) ht
      omega
    · rw [if_neg ht]
      obtain ⟨i, i1, i2⟩ := (hS (7 - j) (by omega) (by omega)).2 ht
      rw [sh_ix_eq hi (by omega) (by omega) ht i1 i2]
      have h2 := sh_step (v := v) hf0 (p := 7 - j) (by omega) (by omega) ht
      have h3 := hw (7 - j) (gh_ty rt fty v (7 - j)) (by omega) (by omega)
      have h4 := Nat.div_mul_le_self (gh_W (sh_fr rt fty v (7 - j))) (sh_w (7 - j) (gh_ty rt fty v (7 - j)))
      generalize gh_W (sh_fr rt fty v (7 - j)) / sh_w (7 - j) (gh_ty rt fty v (7 - j)) = M at *
      have h5 : (i + 1) * M ≤ M * sh_w (7 - j) (gh_ty rt fty v (7 - j)) := by rw [Nat.mul_comm]; exact Nat.mul_le_mul_left _ (by omega)
      rw [Nat.add_mul] at h5
      omega
theorem sh_rk_ag {u v : Nat → Int32} {p : Nat} (hp : 1 ≤ p) (h : sh_ag (p + 1) u v) : ∀ j, 7 ≤ p + j → j ≤ 7 → sh_rk rt fty cn cd u j + sh_rk rt fty cn cd v (7 - p) = sh_rk rt fty cn cd v j + sh_rk rt fty cn cd u (7 - p) := by
  intro j
  induction j with
  | zero => intro h1 _; have : 7 - p = 0 := by omega
            rw [this]; rfl
  | succ j ih =>
    intro h1 h2
    by_cases e : 7 ≤ p + j
    · have h3 := ih e (by omega)
      have ag : sh_ag (7 - j) u v := fun q a b => h q a (by omega)
      have et := sh_ag_ty (rt := rt) (fty := fty) ag (q := 7 - j) (by omega) (by omega) (by omega)
      have ew := sh_fr_ag (rt := rt) (fty := fty) ag
      have ev : u (7 - j) = v (7 - j) := h (7 - j) (by omega) (by omega)
      have ei : sh_ix rt fty cn cd u (7 - j) = sh_ix rt fty cn cd v (7 - j) := by unfold sh_ix; rw [et, ev]
      rw [sh_rk_s (v := u), sh_rk_s (v := v), et, ew, ei]
      omega
    · have e2 : 7 - p = j + 1 := by omega
      rw [e2]; omega
def sh_lt (rt : Int32) (fty : Int32 → Int32 → Nat → Int32) (cn : Nat → Int32 → Nat) (cd : Nat → Int32 → Nat → Int32) (u v : Nat → Int32) : Prop :=
  ∃ p, 1 ≤ p ∧ p ≤ 7 ∧ sh_ag p u v ∧ gh_ty rt fty v p ≠ -1 ∧ ∃ i j, i < j ∧ j < cn p (gh_ty rt fty v p) ∧ u p = cd p (gh_ty rt fty v p) i ∧ v p = cd p (gh_ty rt fty v p) j
theorem sh_diff {u v : Nat → Int32} (hu : gh_Sh rt fty cn cd u) (hv : gh_Sh rt fty cn cd v) (h : ¬ sh_ag 8 u v) : ∃ p i j, 1 ≤ p ∧ p ≤ 7 ∧ sh_ag p u v ∧ gh_ty rt fty v p ≠ -1 ∧ i ≠ j ∧ i < cn p (gh_ty rt fty v p) ∧ j < cn p (gh_ty rt fty v p) ∧ u p = cd p (gh_ty rt fty v p) i ∧ v p = cd p (gh_ty rt fty v p) j := by
  have h2 : ∃ g, 1 ≤ g ∧ g < 8 ∧ u g ≠ v g := Classical.byContradiction (fun w => h (fun k a b => Classical.byContradiction (fun z => w ⟨k, a, b, z⟩)))
  obtain ⟨p, ⟨p1, p2, p3⟩, p4⟩ := pk_least (fun g => 1 ≤ g ∧ g < 8 ∧ u g ≠ v g) h2
  have ag : sh_ag p u v := fun k a b => Classical.byContradiction (fun z => p4 k b ⟨a, by omega, z⟩)
  have et := sh_ag_ty (rt := rt) (fty := fty) ag (q := p) p1 (by omega) (by omega)
  have a1 := hu p p1 (by omega)
  have a2 := hv p p1 (by omega)
  rw [et] at a1
  by_cases ht : gh_ty rt fty v p = -1
  · exact absurd ((a1.1 ht).trans (a2.1 ht).symm) p3
  · obtain ⟨i, i1, i2⟩ := a1.2 ht
    obtain ⟨j, j1, j2⟩ := a2.2 ht
    refine ⟨p, i, j, p1, by omega, ag, ht, fun e => p3 ?_, i1, j1, i2, j2⟩
    rw [i2, j2, e]
theorem sh_tri {u v : Nat → Int32} (hu : gh_Sh rt fty cn cd u) (hv : gh_Sh rt fty cn cd v) : sh_ag 8 u v ∨ sh_lt rt fty cn cd u v ∨ sh_lt rt fty cn cd v u := by
  by_cases h : sh_ag 8 u v
  · exact Or.inl h
  · obtain ⟨p, i, j, p1, p7, ag, ht, ij, i1, j1, i2, j2⟩ := sh_diff hu hv h
    have et := sh_ag_ty (rt := rt) (fty := fty) ag (q := p) p1 (by omega) (by omega)
    rcases Nat.lt_or_gt_of_ne ij with z | z
    · exact Or.inr (Or.inl ⟨p, p1, p7, ag, ht, i, j, z, j1, i2, j2⟩)
    · refine Or.inr (Or.inr ⟨p, p1, p7, fun q a b => (ag q a b).symm, ?_⟩)
      rw [et]
      exact ⟨ht, j, i, z, i1, j2, i2⟩
/-- all positions after p have their last candidates -/
def sh_last (rt : Int32) (fty : Int32 → Int32 → Nat → Int32) (cn : Nat → Int32 → Nat) (cd : Nat → Int32 → Nat → Int32) (v : Nat → Int32) (p : Nat) : Prop := ∀ q, p < q → q ≤ 7 → gh_ty rt fty v q ≠ -1 → v q = cd q (gh_ty rt fty v q) (cn q (gh_ty rt fty v q) - 1)
def sh_frst (rt : Int32) (fty : Int32 → Int32 → Nat → Int32) (cd : Nat → Int32 → Nat → Int32) (v : Nat → Int32) (p : Nat) : Prop := ∀ q, p < q → q ≤ 7 → gh_ty rt fty v q ≠ -1 → v q = cd q (gh_ty rt fty v q) 0
theorem sh_adv_lt (hi : sh_inj cn cd) {u v v' : Nat → Int32} {p i : Nat} (hu : gh_Sh rt fty cn cd u) (hv : gh_Sh rt fty cn cd v) (p1 : 1 ≤ p) (p7 : p ≤ 7) (ag : sh_ag p v' v) (ht : gh_ty rt fty v p ≠ -1) (i1 : i + 1 < cn p (gh_ty rt fty v p)) (hvp : v p = cd p (gh_ty rt fty v p) i) (hvp' : v' p = cd p (gh_ty rt fty v p) (i + 1)) (hl : sh_last rt fty cn cd v p) (hfr : sh_frst rt fty cd v' p) (hlt : sh_lt rt fty cn cd u v') : sh_lt rt fty cn cd u v ∨ sh_ag 8 u v := by
  obtain ⟨q, q1, q7, ag2, ht2, a, b, ab, b1, ua, vb⟩ := hlt
  rcases Nat.lt_trichotomy q p with z | z | z
  · left
    have agq : sh_ag q v' v := fun x x1 x2 => ag x x1 (by omega)
    have et := sh_ag_ty (rt := rt) (fty := fty) agq (q := q) q1 q7 (by omega)
    rw [et] at ht2 b1 ua vb
    exact ⟨q, q1, q7, fun x x1 x2 => (ag2 x x1 x2).trans (agq x x1 x2), ht2, a, b, ab, b1, ua, by rw [← ag q q1 z]; exact vb⟩
  · subst z
    have et := sh_ag_ty (rt := rt) (fty := fty) ag (q := q) q1 q7 (by omega)
    rw [et] at ht2 b1 ua vb
    have eb : b = i + 1 := hi q _ _ _ q1 q7 ht b1 i1 (vb.symm.trans hvp')
    have agu : sh_ag q u v := fun x x1 x2 => (ag2 x x1 x2).trans (ag x x1 x2)
    by_cases e : a = i
    · by_cases w : sh_ag 8 u v
      · exact Or.inr w
      · left
        obtain ⟨r, c, d, r1, r7, agr, htr, cd', c1, d1, ur, vr⟩ := sh_diff hu hv w
        have hr : q < r := by
          rcases Nat.lt_trichotomy r q with y | y | y
          · exfalso
            have e3 := agu r r1 y
            rw [ur, vr] at e3
            exact cd' (hi r _ _ _ r1 r7 htr c1 d1 e3)
          · exfalso
            subst y
            rw [ua, e, ← hvp] at ur
            rw [ur] at vr
            exact cd' (hi r _ _ _ r1 r7 htr c1 d1 vr)
          · exact y
        have ed : d = cn r (gh_ty rt fty v r) - 1 := hi r _ _ _ r1 r7 htr d1 (by omega) (vr.symm.trans (hl r hr r7 htr))
        exact ⟨r, r1, r7, agr, htr, c, d, by omega, d1, ur, vr⟩
    · exact Or.inl ⟨q, q1, q7, agu, ht, a, i, by omega, by omega, ua, hvp⟩
  · exfalso
    have e3 := hfr q z q7 ht2
    have := hi q _ _ _ q1 q7 ht2 b1 (by omega) (vb.symm.trans e3)
    omega
theorem sh_end (hi : sh_inj cn cd) {u v : Nat → Int32} (hu : gh_Sh rt fty cn cd u) (hv : gh_Sh rt fty cn cd v) (hl : sh_last rt fty cn cd v 0) : sh_lt rt fty cn cd u v ∨ sh_ag 8 u v := by
  by_cases w : sh_ag 8 u v
  · exact Or.inr w
  · obtain ⟨r, c, d, r1, r7, agr, htr, cd', c1, d1, ur, vr⟩ := sh_diff hu hv w
    have ed : d = cn r (gh_ty rt fty v r) - 1 := hi r _ _ _ r1 r7 htr d1 (by omega) (vr.symm.trans (hl r (by omega) r7 htr))
    exact Or.inl ⟨r, r1, r7, agr, htr, c, d, by omega, d1, ur, vr⟩
theorem sh_start (hi : sh_inj cn cd) {u v : Nat → Int32} (hfr : sh_frst rt fty cd v 0) : ¬ sh_lt rt fty cn cd u v := by
  rintro ⟨q, q1, q7, ag2, ht2, a, b, ab, b1, ua, vb⟩
  have := hi q _ _ _ q1 q7 ht2 b1 (by omega) (vb.symm.trans (hfr q (by omega) q7 ht2))
  omega
theorem sh_adv_rk (hi : sh_inj cn cd) (hw : sh_few cn) (hf0 : ∀ c q, fty 0 c q = -1) (hf1 : ∀ c q, fty (-1) c q = -1) {v v' : Nat → Int32} {p i : Nat} (hv : gh_Sh rt fty cn cd v) (p1 : 1 ≤ p) (p7 : p ≤ 7) (ag : sh_ag p v' v) (ht : gh_ty rt fty v p ≠ -1) (i1 : i + 1 < cn p (gh_ty rt fty v p)) (hvp : v p = cd p (gh_ty rt fty v p) i) (hvp' : v' p = cd p (gh_ty rt fty v p) (i + 1)) : sh_rk rt fty cn cd v 7 < sh_rk rt fty cn cd v' 7 := by
  have et := sh_ag_ty (rt := rt) (fty := fty) ag (q := p) p1 p7 (by omega)
  have ew := sh_fr_ag (rt := rt) (fty := fty) ag
  have x1 := sh_ix_eq hi p1 p7 ht (by omega) hvp
  have x2 : sh_ix rt fty cn cd v' p = i + 1 := sh_ix_eq hi p1 p7 (by rw [et]; exact ht) (by rw [et]; exact i1) (by rw [et]; exact hvp')
  have h2 := sh_step (v := v) hf0 p1 p7 ht
  have h3 := sh_rk_lt hi hw hf0 hf1 hv (7 - p) (by omega)
  rw [show 8 - (7 - p) = p + 1 by omega] at h3
  have key : sh_rk rt fty cn cd v (7 - p + 1) < sh_rk rt fty cn cd v' (7 - p + 1) := by
    unfold sh_rk
    rw [show 7 - (7 - p) = p by omega, et, if_neg ht, if_neg ht, x1, x2, ew, Nat.add_mul]
    omega
  by_cases e : p = 1
  · subst e; exact key
  · have h4 := sh_rk_ag (rt := rt) (fty := fty) (cn := cn) (cd := cd) (p := p - 1) (by omega) (u := v') (v := v) (fun q a b => ag q a (by omega)) 7 (by omega) (by omega)
    rw [show 7 - (p - 1) = 7 - p + 1 by omega] at h4
    omega
end
end
section
/-! X: the reading walks of the graph's making -/
section
variable {tt rl rt cc rc nc hlc clc sc qt : Nat} {ph ro misF lr : Int32} {solM livM : Int64} {a_ctorType a_ctorFirst a_ctorSecond a_typeSize a_typeCtors a_rowFirst a_rowSize a_guardKind a_guardA a_guardB a_clauseFirst a_nodeKind a_nodeArg a_nodePos a_nodeRow a_altOf a_altSide a_nodeNew a_after a_holePos a_holeType a_holeOwner a_holeSide a_clauseRow a_clauseTests a_testHead a_clauseBind a_litCount a_lits a_freshInt a_stateOpen a_statePos a_stateNext a_child a_bucketHead a_pin a_marked a_queue a_val a_valType a_bound : Nat → Int32} {a_clauseNodes a_stateMask : Nat → Int64}
def xc_t (T : Nat → Int32) (c p : Nat) : Bool := bt (T c) p
def xc_h (H : Nat → Int32) (c p : Nat) : Int32 := H (c * 8 + p)
def xc_r (R : Nat → Int32) (c : Nat) : Nat := (R c).toNatClampNeg
def xc_s (R G : Nat → Int32) (c : Nat) : Bool := decide (G (R c).toNatClampNeg = 0)
/-- rows of the clauses: within, ascending -/
def xc_ok (R : Nat → Int32) (N : Nat) : Prop := (∀ c, c < N → ∃ r, r < 8 ∧ R c = nI r) ∧ ∀ c c', c ≤ c' → c' < N → xc_r R c ≤ xc_r R c'
theorem lc_br {b : Bool} {A B : Prop} (hf : b = false → A) (ht : b = true → B) : (lc_b b = 0 → A) ∧ (¬ lc_b b = 0 → B) := by
  cases b with
  | false => exact br_t rfl (hf rfl)
  | true => exact br_f (by decide) (ht rfl)
theorem xw_hasBit {post : Int32 → Prop} {m : Int64} {c : Nat} (hc : c < 64) (h : post (lc_b (bi_L m c))) : wpX_hasBit post (nI tt, nI rl, nI rt, ph, nI cc, nI rc, ro, nI nc, nI hlc, nI clc, nI sc, solM, livM, misF, nI qt, lr, a_ctorType, a_ctorFirst, a_ctorSecond, a_typeSize, a_typeCtors, a_rowFirst, a_rowSize, a_guardKind, a_guardA, a_guardB, a_clauseFirst, a_nodeKind, a_nodeArg, a_nodePos, a_nodeRow, a_altOf, a_altSide, a_nodeNew, a_after, a_holePos, a_holeType, a_holeOwner, a_holeSide, a_clauseRow, a_clauseNodes, a_clauseTests, a_testHead, a_clauseBind, a_litCount, a_lits, a_freshInt, a_stateMask, a_stateOpen, a_statePos, a_stateNext, a_child, a_bucketHead, a_pin, a_marked, a_queue, a_val, a_valType, a_bound) m (nI c) := by
  cases hb : bi_L m c with
  | false => rw [hb] at h; exact br_t ((bi_has hc).mpr hb) h
  | true => rw [hb] at h; exact br_f (fun z => by rw [(bi_has hc).mp z] at hb; exact absurd hb (by decide)) h
theorem xw_tbit {x : Int32} {p : Nat} {A B : Prop} (hp : p < 32) (hf : bt x p = false → A) (ht : bt x p = true → B) : ((x >>> (nI p &&& 31)) &&& 1 = 0 → A) ∧ (¬ (x >>> (nI p &&& 31)) &&& 1 = 0 → B) := by
  rw [bi_t1 x hp]
  exact lc_br hf ht
theorem xw_openBits_l {post : Int32 → Prop} {o : Int32} (h : ∀ bits, (∀ p, p < 32 → bt bits p = (decide (1 ≤ p ∧ p < 8) && !decide (bi_ot o p = -1))) → post bits) :
    ∀ d i b, i + d = 8 → 1 ≤ i → (∀ p, p < 32 → bt b p = (decide (1 ≤ p ∧ p < i) && !decide (bi_ot o p = -1))) → wX_openBits_4 post o (nI tt) (nI rl) (nI rt) ph (nI cc) (nI rc) ro (nI nc) (nI hlc) (nI clc) (nI sc) solM livM misF (nI qt) lr a_ctorType a_ctorFirst a_ctorSecond a_typeSize a_typeCtors a_rowFirst a_rowSize a_guardKind a_guardA a_guardB a_clauseFirst a_nodeKind a_nodeArg a_nodePos a_nodeRow a_altOf a_altSide a_nodeNew a_after a_holePos a_holeType a_holeOwner a_holeSide a_clauseRow a_clauseNodes a_clauseTests a_testHead a_clauseBind a_litCount a_lits a_freshInt a_stateMask a_stateOpen a_statePos a_stateNext a_child a_bucketHead a_pin a_marked a_queue a_val a_valType a_bound (d + 1) b (nI i) := by
  intro d
  induction d with
  | zero =>
    intro i b h1 h2 h3
    have : i = 8 := by omega
    subst this
    exact br_t (nI_le (a := 8) (b := 8) (by omega) (by omega)) (h b h3)
  | succ d ih =>
    intro i b h1 h2 h3
    refine br_f (nI_ge (a := i) (b := 8) (by omega) (by omega)) ?_
    refine br_c (fun z => nm_r (nI_1 i) (ih (i + 1) b (by omega) (by omega) (fun p hp => ?_))) (fun z => nm_e (nm_r (nI_1 i) (ih (i + 1) _ (by omega) (by omega) (fun p hp => ?_))))
    · rw [h3 p hp]
      have z' := (bi_ot0 o (p := i) (by omega)).mp z
      by_cases e : p = i
      · subst e
        rw [z']; simp
      · have : (1 ≤ p ∧ p < i) ↔ (1 ≤ p ∧ p < i + 1) := by omega
        simp only [this]
    · rw [bi_tset (by omega), h3 p hp]
      have z' : ¬ bi_ot o i = -1 := fun w => z ((bi_ot0 o (p := i) (by omega)).mpr w)
      by_cases e : p = i
      · subst e
        simp [z', h2]
      · have : (1 ≤ p ∧ p < i) ↔ (1 ≤ p ∧ p < i + 1) := by omega
        simp only [this]
        simp [e]
theorem xw_openBits {post : Int32 → Prop} {o : Int32} (h : ∀ bits, (∀ p, p < 32 → bt bits p = (decide (1 ≤ p ∧ p < 8) && !decide (bi_ot o p = -1))) → post bits) : wpX_openBits post (nI tt, nI rl, nI rt, ph, nI cc, nI rc, ro, nI nc, nI hlc, nI clc, nI sc, solM, livM, misF, nI qt, lr, a_ctorType, a_ctorFirst, a_ctorSecond, a_typeSize, a_typeCtors, a_rowFirst, a_rowSize, a_guardKind, a_guardA, a_guardB, a_clauseFirst, a_nodeKind, a_nodeArg, a_nodePos, a_nodeRow, a_altOf, a_altSide, a_nodeNew, a_after, a_holePos, a_holeType, a_holeOwner, a_holeSide, a_clauseRow, a_clauseNodes, a_clauseTests, a_testHead, a_clauseBind, a_litCount, a_lits, a_freshInt, a_stateMask, a_stateOpen, a_statePos, a_stateNext, a_child, a_bucketHead, a_pin, a_marked, a_queue, a_val, a_valType, a_bound) o :=
  ⟨8, xw_openBits_l h 7 1 0 rfl (by omega) (fun p _ => by
    rw [b_0]
    rw [decide_eq_false (by omega : ¬ (1 ≤ p ∧ p < 1))]
    rfl)⟩
theorem xw_no {T : Nat → Int32} {o bits : Int32} {c : Nat} (hb : ∀ p, p < 32 → bt bits p = (decide (1 ≤ p ∧ p < 8) && !decide (bi_ot o p = -1))) : (T c &&& bits) = 0 ↔ gh_no (xc_t T) (bi_ot o) c := by
  rw [bi_tand]
  constructor
  · intro h p p1 p7 ht
    have := h p (by omega) ht
    rw [hb p (by omega)] at this
    have q : (1 ≤ p ∧ p < 8) := by omega
    simpa [q] using this
  · intro h p hp ht
    rw [hb p hp]
    by_cases q : 1 ≤ p ∧ p < 8
    · rw [h p q.1 (by omega) ht]; simp
    · simp [q]
/-- prune: what is dropped has a clause before it that matches already -/
def xw_Pr (T R G : Nat → Int32) (N : Nat) (mask : Int64) (o : Int32) (kept : Int64) : Prop :=
  (∀ c, bi_L kept c = true → bi_L mask c = true) ∧
  (∀ c, bi_L mask c = true → bi_L kept c = false → ∃ c0, c0 < c ∧ bi_L kept c0 = true ∧ gh_no (xc_t T) (bi_ot o) c0 ∧ (xc_s R G c0 = true ∨ xc_r R c0 = xc_r R c)) ∧
  gh_PR (xc_t T) (xc_r R) (xc_s R G) (bi_L kept) (bi_ot o)
theorem xw_prune_l {post : Int64 → Prop} {mask : Int64} {o bits : Int32} (hN : clc < 64) (hR : xc_ok a_clauseRow clc) (hm : ∀ c, bi_L mask c = true → c < clc) (hb : ∀ p, p < 32 → bt bits p = (decide (1 ≤ p ∧ p < 8) && !decide (bi_ot o p = -1)))
    (h : ∀ kept, xw_Pr a_clauseTests a_clauseRow a_guardKind clc mask o kept → post kept) :
    ∀ d i kept dr, i + d = clc → (∀ c, bi_L kept c = true → c < i ∧ bi_L mask c = true) →
      (∀ c, c < i → bi_L mask c = true → bi_L kept c = false → ∃ c0, c0 < c ∧ bi_L kept c0 = true ∧ gh_no (xc_t a_clauseTests) (bi_ot o) c0 ∧ (xc_s a_clauseRow a_guardKind c0 = true ∨ xc_r a_clauseRow c0 = xc_r a_clauseRow c)) →
      gh_PR (xc_t a_clauseTests) (xc_r a_clauseRow) (xc_s a_clauseRow a_guardKind) (bi_L kept) (bi_ot o) →
      (dr = -1 ∨ ∃ c0, c0 < i ∧ bi_L kept c0 = true ∧ gh_no (xc_t a_clauseTests) (bi_ot o) c0 ∧ dr = a_clauseRow c0) →
      (∀ c0, bi_L kept c0 = true → gh_no (xc_t a_clauseTests) (bi_ot o) c0 → xc_s a_clauseRow a_guardKind c0 = false ∧ (a_clauseRow c0 = dr ∨ ∃ c1, c1 < i ∧ xc_r a_clauseRow c0 < xc_r a_clauseRow c1)) →
      wX_prune_16 post mask bits (nI tt) (nI rl) (nI rt) ph (nI cc) (nI rc) ro (nI nc) (nI hlc) (nI clc) (nI sc) solM livM misF (nI qt) lr a_ctorType a_ctorFirst a_ctorSecond a_typeSize a_typeCtors a_rowFirst a_rowSize a_guardKind a_guardA a_guardB a_clauseFirst a_nodeKind a_nodeArg a_nodePos a_nodeRow a_altOf a_altSide a_nodeNew a_after a_holePos a_holeType a_holeOwner a_holeSide a_clauseRow a_clauseNodes a_clauseTests a_testHead a_clauseBind a_litCount a_lits a_freshInt a_stateMask a_stateOpen a_statePos a_stateNext a_child a_bucketHead a_pin a_marked a_queue a_val a_valType a_bound (d + 1) kept dr (nI i) := by
  intro d
  induction d with
  | zero =>
    intro i kept dr h1 h2 h3 h4 h5 h6
    have : i = clc := by omega
    subst this
    exact br_t (nI_le (by omega) (by omega)) (h kept ⟨fun c hc => (h2 c hc).2, fun c hc hk => h3 c (hm c hc) hc hk, h4⟩)
  | succ d ih =>
    intro i kept dr h1 h2 h3 h4 h5 h6
    have e : (nI i).toNatClampNeg = i := nI_clamp (by omega)
    obtain ⟨r, r8, er⟩ := hR.1 i (by omega)
    have w : vp_in (nI i) 64 := vp_in_nI (by omega) (by omega)
    have er' : a_clauseRow (nI i).toNatClampNeg = nI r := by rw [e]; exact er
    have exr : xc_r a_clauseRow i = r := by unfold xc_r; rw [er]; exact nI_clamp (by omega)
    refine br_f (nI_ge (by omega) (by omega)) ⟨w, nm_r er' (xw_hasBit (by omega) (lc_br (fun hf => nm_r (nI_1 i) (ih (i + 1) kept dr (by omega) (fun c hc => ⟨Nat.lt_succ_of_lt (h2 c hc).1, (h2 c hc).2⟩) ?_ h4 ?_ ?_)) (fun ht => br_c (fun z => nm_r (nI_1 i) (ih (i + 1) kept dr (by omega) (fun c hc => ⟨Nat.lt_succ_of_lt (h2 c hc).1, (h2 c hc).2⟩) ?_ h4 ?_ ?_)) (fun z => nm_e ⟨w, ?_⟩))))⟩
    · intro c hc hmc hk
      by_cases q : c = i
      · subst q; rw [hf] at hmc; exact absurd hmc (by decide)
      · exact h3 c (by omega) hmc hk
    · rcases h5 with h5 | ⟨c0, a, b⟩
      · exact Or.inl h5
      · exact Or.inr ⟨c0, by omega, b⟩
    · intro c0 a b
      obtain ⟨x, y⟩ := h6 c0 a b
      refine ⟨x, ?_⟩
      rcases y with y | ⟨c1, y1, y2⟩
      · exact Or.inl y
      · exact Or.inr ⟨c1, by omega, y2⟩
    · intro c hc hmc hk
      by_cases q : c = i
      · subst q
        rcases h5 with h5 | ⟨c0, a, b1, b2, b3⟩
        · rw [h5] at z
          exact absurd z (by
            intro zz
            have := congrArg Int32.toInt zz
            rw [nI_toInt (by omega)] at this
            rw [show (-1 : Int32).toInt = -1 from by decide] at this
            omega)
        · refine ⟨c0, a, b1, b2, Or.inr ?_⟩
          unfold xc_r
          rw [er, ← z] at *
          rw [← b3]
      · exact h3 c (by omega) hmc hk
    · rcases h5 with h5 | ⟨c0, a, b⟩
      · exact Or.inl h5
      · exact Or.inr ⟨c0, by omega, b⟩
    · intro c0 a b
      obtain ⟨x, y⟩ := h6 c0 a b
      refine ⟨x, ?_⟩
      rcases y with y | ⟨c1, y1, y2⟩
      · exact Or.inl y
      · exact Or.inr ⟨c1, by omega, y2⟩
    · -- kept
      have kb : ∀ c, bi_L (kept ||| ((1 : Int64) <<< ((nI i).toInt64 &&& 63))) c = (bi_L kept c || decide (c = i)) := fun c => bi_set (by omega) _ _
      have kt : ∀ c, bi_L (kept ||| ((1 : Int64) <<< ((nI i).toInt64 &&& 63))) c = true ↔ bi_L kept c = true ∨ c = i := by
        intro c; rw [kb]; simp
      have kf : ∀ c, bi_L (kept ||| ((1 : Int64) <<< ((nI i).toInt64 &&& 63))) c = false → bi_L kept c = false ∧ c ≠ i := by
        intro c; rw [kb]; simp
      have pr : gh_PR (xc_t a_clauseTests) (xc_r a_clauseRow) (xc_s a_clauseRow a_guardKind) (bi_L (kept ||| ((1 : Int64) <<< ((nI i).toInt64 &&& 63)))) (bi_ot o) := by
        intro c0 c hlt hc0 hc hno
        rcases (kt c0).mp hc0 with k0 | k0
        · rcases (kt c).mp hc with k1 | k1
          · exact h4 c0 c hlt k0 k1 hno
          · subst k1
            obtain ⟨x, y⟩ := h6 c0 k0 hno
            refine ⟨x, fun q => ?_⟩
            rcases y with y | ⟨c1, y1, y2⟩
            · apply z
              obtain ⟨r0, r08, er0⟩ := hR.1 c0 (by omega)
              rw [← y, er0]
              congr 1
              unfold xc_r at q
              rw [er0, nI_clamp (by omega), er, nI_clamp (by omega)] at q
              exact q.symm
            · have := hR.2 c1 c (by omega) (by omega)
              omega
        · subst k0
          rcases (kt c).mp hc with k1 | k1
          · have := (h2 c k1).1; omega
          · omega
      have old : ∀ c, c < i + 1 → bi_L mask c = true → bi_L (kept ||| ((1 : Int64) <<< ((nI i).toInt64 &&& 63))) c = false → ∃ c0, c0 < c ∧ bi_L (kept ||| ((1 : Int64) <<< ((nI i).toInt64 &&& 63))) c0 = true ∧ gh_no (xc_t a_clauseTests) (bi_ot o) c0 ∧ (xc_s a_clauseRow a_guardKind c0 = true ∨ xc_r a_clauseRow c0 = xc_r a_clauseRow c) := by
        intro c hc hmc hk
        obtain ⟨k1, k2⟩ := kf c hk
        obtain ⟨c0, a1, a2, a3, a4⟩ := h3 c (by omega) hmc k1
        exact ⟨c0, a1, (kt c0).mpr (Or.inl a2), a3, a4⟩
      have sub : ∀ c, bi_L (kept ||| ((1 : Int64) <<< ((nI i).toInt64 &&& 63))) c = true → c < i + 1 ∧ bi_L mask c = true := by
        intro c hc
        rcases (kt c).mp hc with k | k
        · exact ⟨Nat.lt_succ_of_lt (h2 c k).1, (h2 c k).2⟩
        · subst k; exact ⟨Nat.lt_succ_self _, ht⟩
      rw [e]
      have wr : vp_in (nI r) 8 := vp_in_nI r8 (by omega)
      have es : xc_s a_clauseRow a_guardKind i = decide (a_guardKind r = 0) := by
        unfold xc_s; rw [er, nI_clamp (by omega)]
      refine br_c (fun hn => ⟨wr, ?_⟩) (fun hn => nm_r (nI_1 i) (ih (i + 1) _ dr (by omega) sub old pr ?_ ?_))
      · have hno := (xw_no hb).mp hn
        rw [nI_clamp (by omega : r < 2 ^ 31)]
        refine br_c (fun hg => h _ ⟨fun c hc => (sub c hc).2, fun c hmc hk => ?_, pr⟩) (fun hg => nm_r (nI_1 i) (ih (i + 1) _ (nI r) (by omega) sub old pr (Or.inr ⟨i, by omega, (kt i).mpr (Or.inr rfl), hno, er.symm⟩) ?_))
        · by_cases q : c < i + 1
          · exact old c q hmc hk
          · refine ⟨i, by omega, (kt i).mpr (Or.inr rfl), hno, Or.inl ?_⟩
            rw [es, hg]; rfl
        · intro c0 k0 hno0
          rcases (kt c0).mp k0 with k1 | k1
          · obtain ⟨x, y⟩ := h6 c0 k1 hno0
            refine ⟨x, Or.inr ⟨i, by omega, ?_⟩⟩
            have hlt := (h2 c0 k1).1
            rcases y with y | ⟨c1, y1, y2⟩
            · have h7 := hR.2 c0 i (by omega) (by omega)
              rcases Nat.lt_or_ge (xc_r a_clauseRow c0) (xc_r a_clauseRow i) with h8 | h8
              · exact h8
              · exfalso
                apply z
                obtain ⟨r0, r08, er0⟩ := hR.1 c0 (by omega)
                rw [← y, er0]
                congr 1
                have h9 : xc_r a_clauseRow c0 = r0 := by unfold xc_r; rw [er0]; exact nI_clamp (by omega)
                omega
            · have := hR.2 c1 i (by omega) (by omega)
              omega
          · subst k1
            refine ⟨?_, Or.inl er⟩
            rw [es]; exact decide_eq_false hg
      · rcases h5 with h5 | ⟨c0, a, b1, b2, b3⟩
        · exact Or.inl h5
        · exact Or.inr ⟨c0, by omega, (kt c0).mpr (Or.inl b1), b2, b3⟩
      · intro c0 k0 hno0
        rcases (kt c0).mp k0 with k1 | k1
        · obtain ⟨x, y⟩ := h6 c0 k1 hno0
          refine ⟨x, ?_⟩
          rcases y with y | ⟨c1, y1, y2⟩
          · exact Or.inl y
          · exact Or.inr ⟨c1, by omega, y2⟩
        · subst k1
          exact absurd ((xw_no hb).mpr hno0) hn
theorem xw_prune {post : Int64 → Prop} {mask : Int64} {o : Int32} (hN : clc < 64) (hR : xc_ok a_clauseRow clc) (hm : ∀ c, bi_L mask c = true → c < clc)
    (h : ∀ kept, xw_Pr a_clauseTests a_clauseRow a_guardKind clc mask o kept → post kept) : wpX_prune post (nI tt, nI rl, nI rt, ph, nI cc, nI rc, ro, nI nc, nI hlc, nI clc, nI sc, solM, livM, misF, nI qt, lr, a_ctorType, a_ctorFirst, a_ctorSecond, a_typeSize, a_typeCtors, a_rowFirst, a_rowSize, a_guardKind, a_guardA, a_guardB, a_clauseFirst, a_nodeKind, a_nodeArg, a_nodePos, a_nodeRow, a_altOf, a_altSide, a_nodeNew, a_after, a_holePos, a_holeType, a_holeOwner, a_holeSide, a_clauseRow, a_clauseNodes, a_clauseTests, a_testHead, a_clauseBind, a_litCount, a_lits, a_freshInt, a_stateMask, a_stateOpen, a_statePos, a_stateNext, a_child, a_bucketHead, a_pin, a_marked, a_queue, a_val, a_valType, a_bound) mask o := by
  unfold wpX_prune
  dsimp only
  refine xw_openBits (fun bits hb => ⟨clc + 1, ?_⟩)
  exact xw_prune_l hN hR hm hb h clc 0 0 (-1) (by omega) (fun c hc => by rw [bi_0] at hc; exact absurd hc (by decide)) (fun c hc => by omega) (fun c0 c _ hc0 => by rw [bi_0] at hc0; exact absurd hc0 (by decide)) (Or.inl rfl) (fun c0 hc0 => by rw [bi_0] at hc0; exact absurd hc0 (by decide))
end
end
section
section
variable {tt rl rt cc rc nc hlc clc sc qt : Nat} {ph ro misF lr : Int32} {solM livM : Int64} {a_ctorType a_ctorFirst a_ctorSecond a_typeSize a_typeCtors a_rowFirst a_rowSize a_guardKind a_guardA a_guardB a_clauseFirst a_nodeKind a_nodeArg a_nodePos a_nodeRow a_altOf a_altSide a_nodeNew a_after a_holePos a_holeType a_holeOwner a_holeSide a_clauseRow a_clauseTests a_testHead a_clauseBind a_litCount a_lits a_freshInt a_stateOpen a_statePos a_stateNext a_child a_bucketHead a_pin a_marked a_queue a_val a_valType a_bound : Nat → Int32} {a_clauseNodes a_stateMask : Nat → Int64}
def xc_n (LC TS : Nat → Int32) (p : Nat) (t : Int32) : Nat := if t = 0 then (LC p).toNatClampNeg + 1 else if 0 < t ∧ t ≤ 4 then (TS t.toNatClampNeg).toNatClampNeg else 0
def xc_d (LC LI FR TC : Nat → Int32) (p : Nat) (t : Int32) (i : Nat) : Int32 := if t = 0 then (if i < (LC p).toNatClampNeg then LI (p * 4 + i) else FR p) else TC (t.toNatClampNeg * 3 + i)
def xc_f (cc : Nat) (C1 C2 : Nat → Int32) (t c : Int32) (q : Nat) : Int32 := if t < 1 ∨ c < 0 ∨ nI cc ≤ c then -1 else if q % 2 = 0 then C1 c.toNatClampNeg else C2 c.toNatClampNeg
/-- sizes of the candidate lists -/
def xc_L (LC TS : Nat → Int32) : Prop := (∀ p, 1 ≤ p → p ≤ 7 → ∃ m, m ≤ (if p ≤ 3 then 4 else 2) ∧ LC p = nI m) ∧ ∀ k, 1 ≤ k → k ≤ 4 → ∃ s, s ≤ 3 ∧ TS k = nI s
def xc_ty (o : Int32) : Prop := ∀ p, 1 ≤ p → p ≤ 7 → bi_ot o p ≠ -1 → ∃ k, k ≤ 4 ∧ bi_ot o p = nI k
theorem xw_shrink49 {post : Int32 → Prop} {o x4 : Int32} (h : ∀ s, (∀ q, 1 ≤ q → q ≤ 7 → bi_ot s q = if bt x4 q = true then bi_ot o q else -1) → post s) :
    ∀ d i s, i + d = 8 → 1 ≤ i → (∀ q, 1 ≤ q → q ≤ 7 → bi_ot s q = if q < i ∧ bt x4 q = true then bi_ot o q else -1) → wX_shrink_49 post o x4 (nI tt) (nI rl) (nI rt) ph (nI cc) (nI rc) ro (nI nc) (nI hlc) (nI clc) (nI sc) solM livM misF (nI qt) lr a_ctorType a_ctorFirst a_ctorSecond a_typeSize a_typeCtors a_rowFirst a_rowSize a_guardKind a_guardA a_guardB a_clauseFirst a_nodeKind a_nodeArg a_nodePos a_nodeRow a_altOf a_altSide a_nodeNew a_after a_holePos a_holeType a_holeOwner a_holeSide a_clauseRow a_clauseNodes a_clauseTests a_testHead a_clauseBind a_litCount a_lits a_freshInt a_stateMask a_stateOpen a_statePos a_stateNext a_child a_bucketHead a_pin a_marked a_queue a_val a_valType a_bound (d + 1) s (nI i) := by
  intro d
  induction d with
  | zero =>
    intro i s h1 h2 h3
    have : i = 8 := by omega
    subst this
    refine br_t (nI_le (a := 8) (b := 8) (by omega) (by omega)) (h s (fun q q1 q7 => ?_))
    rw [h3 q q1 q7]
    have : q < 8 := by omega
    simp [this]
  | succ d ih =>
    intro i s h1 h2 h3
    refine br_f (nI_ge (a := i) (b := 8) (by omega) (by omega)) (xw_tbit (by omega) (fun hf => nm_r (nI_1 i) (ih (i + 1) s (by omega) (by omega) (fun q q1 q7 => ?_))) (fun ht => nm_e (nm_r (nI_1 i) (ih (i + 1) _ (by omega) (by omega) (fun q q1 q7 => ?_)))))
    · rw [h3 q q1 q7]
      by_cases e : q = i
      · subst e; simp [hf]
      · have : (q < i) ↔ (q < i + 1) := by omega
        simp only [this]
    · rw [bi_merge _ _ (by omega) q7, h3 q q1 q7]
      · by_cases e : q = i
        · subst e; simp [ht]
        · have : (q < i) ↔ (q < i + 1) := by omega
          simp only [this, if_neg e]
      · rw [h3 i (by omega) (by omega)]
        simp
theorem xw_shrink6 {post : Int32 → Prop} {o : Int32} {kept : Int64} (hN : clc < 64)
    (h : ∀ s, (∀ q, 1 ≤ q → q ≤ 7 → (∃ c, c < clc ∧ bi_L kept c = true ∧ xc_t a_clauseTests c q = true) → bi_ot s q = bi_ot o q) → (∀ q, 1 ≤ q → q ≤ 7 → (¬ ∃ c, c < clc ∧ bi_L kept c = true ∧ xc_t a_clauseTests c q = true) → bi_ot s q = -1) → post s) :
    ∀ d i x4, i + d = clc → (∀ p, p < 32 → (bt x4 p = true ↔ ∃ c, c < i ∧ bi_L kept c = true ∧ xc_t a_clauseTests c p = true)) → wX_shrink_6 post o kept (nI tt) (nI rl) (nI rt) ph (nI cc) (nI rc) ro (nI nc) (nI hlc) (nI clc) (nI sc) solM livM misF (nI qt) lr a_ctorType a_ctorFirst a_ctorSecond a_typeSize a_typeCtors a_rowFirst a_rowSize a_guardKind a_guardA a_guardB a_clauseFirst a_nodeKind a_nodeArg a_nodePos a_nodeRow a_altOf a_altSide a_nodeNew a_after a_holePos a_holeType a_holeOwner a_holeSide a_clauseRow a_clauseNodes a_clauseTests a_testHead a_clauseBind a_litCount a_lits a_freshInt a_stateMask a_stateOpen a_statePos a_stateNext a_child a_bucketHead a_pin a_marked a_queue a_val a_valType a_bound (d + 1) x4 (nI i) := by
  intro d
  induction d with
  | zero =>
    intro i x4 h1 h2
    have : i = clc := by omega
    subst this
    refine br_t (nI_le (by omega) (by omega)) ⟨8, xw_shrink49 (fun s hs => h s (fun q q1 q7 hx => ?_) (fun q q1 q7 hx => ?_)) 7 1 0 rfl (by omega) (fun q q1 q7 => ?_)⟩
    · rw [hs q q1 q7, if_pos ((h2 q (by omega)).mpr hx)]
    · rw [hs q q1 q7, if_neg (fun z => hx ((h2 q (by omega)).mp z))]
    · rw [bi_otz q7, if_neg (by omega)]
  | succ d ih =>
    intro i x4 h1 h2
    have e : (nI i).toNatClampNeg = i := nI_clamp (by omega)
    have w : vp_in (nI i) 64 := vp_in_nI (by omega) (by omega)
    refine br_f (nI_ge (by omega) (by omega)) (xw_hasBit (by omega) (lc_br (fun hf => nm_r (nI_1 i) (ih (i + 1) x4 (by omega) (fun p hp => ?_))) (fun ht => ⟨w, nm_r (e' := x4 ||| a_clauseTests i) (by rw [e]) (nm_r (nI_1 i) (ih (i + 1) _ (by omega) (fun p hp => ?_)))⟩)))
    · rw [h2 p hp]
      constructor
      · rintro ⟨c, c1, c2⟩; exact ⟨c, by omega, c2⟩
      · rintro ⟨c, c1, c2, c3⟩
        by_cases q : c = i
        · subst q; rw [hf] at c2; exact absurd c2 (by decide)
        · exact ⟨c, by omega, c2, c3⟩
    · rw [b_or, Bool.or_eq_true, h2 p hp]
      constructor
      · rintro (⟨c, c1, c2⟩ | z)
        · exact ⟨c, by omega, c2⟩
        · exact ⟨i, by omega, ht, z⟩
      · rintro ⟨c, c1, c2, c3⟩
        by_cases q : c = i
        · subst q; exact Or.inr c3
        · exact Or.inl ⟨c, by omega, c2, c3⟩
theorem xw_shrink {post : Int32 → Prop} {o : Int32} {kept : Int64} (hN : clc < 64) (hk : ∀ c, bi_L kept c = true → c < clc)
    (h : ∀ s, (∀ q, 1 ≤ q → q ≤ 7 → (∃ c, bi_L kept c = true ∧ xc_t a_clauseTests c q = true) → bi_ot s q = bi_ot o q) → (∀ q, 1 ≤ q → q ≤ 7 → (¬ ∃ c, bi_L kept c = true ∧ xc_t a_clauseTests c q = true) → bi_ot s q = -1) → post s) : wpX_shrink post (nI tt, nI rl, nI rt, ph, nI cc, nI rc, ro, nI nc, nI hlc, nI clc, nI sc, solM, livM, misF, nI qt, lr, a_ctorType, a_ctorFirst, a_ctorSecond, a_typeSize, a_typeCtors, a_rowFirst, a_rowSize, a_guardKind, a_guardA, a_guardB, a_clauseFirst, a_nodeKind, a_nodeArg, a_nodePos, a_nodeRow, a_altOf, a_altSide, a_nodeNew, a_after, a_holePos, a_holeType, a_holeOwner, a_holeSide, a_clauseRow, a_clauseNodes, a_clauseTests, a_testHead, a_clauseBind, a_litCount, a_lits, a_freshInt, a_stateMask, a_stateOpen, a_statePos, a_stateNext, a_child, a_bucketHead, a_pin, a_marked, a_queue, a_val, a_valType, a_bound) o kept :=
  ⟨clc + 1, xw_shrink6 hN (fun s h1 h2 => h s (fun q q1 q7 ⟨c, c1, c2⟩ => h1 q q1 q7 ⟨c, hk c c1, c1, c2⟩) (fun q q1 q7 hx => h2 q q1 q7 (fun ⟨c, _, c2⟩ => hx ⟨c, c2⟩))) clc 0 0 (by omega) (fun p _ => by
    rw [b_0]
    constructor
    · intro z; exact absurd z (by decide)
    · rintro ⟨c, c1, _⟩; omega)⟩
theorem xw_firstNeeds_l {post : Int32 → Prop} {mask : Int64} {bits : Int32} (hN : clc < 64) (h0 : (∀ c, c < clc → bi_L mask c = true → (a_clauseTests c &&& bits) = 0) → post 0) (h1 : ∀ c, c < clc → bi_L mask c = true → ¬ (a_clauseTests c &&& bits) = 0 → post (a_clauseTests c &&& bits)) :
    ∀ d i, i + d = clc → (∀ c, c < i → bi_L mask c = true → (a_clauseTests c &&& bits) = 0) → wX_firstNeeds_3 post mask bits (nI tt) (nI rl) (nI rt) ph (nI cc) (nI rc) ro (nI nc) (nI hlc) (nI clc) (nI sc) solM livM misF (nI qt) lr a_ctorType a_ctorFirst a_ctorSecond a_typeSize a_typeCtors a_rowFirst a_rowSize a_guardKind a_guardA a_guardB a_clauseFirst a_nodeKind a_nodeArg a_nodePos a_nodeRow a_altOf a_altSide a_nodeNew a_after a_holePos a_holeType a_holeOwner a_holeSide a_clauseRow a_clauseNodes a_clauseTests a_testHead a_clauseBind a_litCount a_lits a_freshInt a_stateMask a_stateOpen a_statePos a_stateNext a_child a_bucketHead a_pin a_marked a_queue a_val a_valType a_bound (d + 1) (nI i) := by
  intro d
  induction d with
  | zero =>
    intro i h2 h3
    have : i = clc := by omega
    subst this
    exact br_t (nI_le (by omega) (by omega)) (h0 h3)
  | succ d ih =>
    intro i h2 h3
    have e : (nI i).toNatClampNeg = i := nI_clamp (by omega)
    have w : vp_in (nI i) 64 := vp_in_nI (by omega) (by omega)
    refine br_f (nI_ge (by omega) (by omega)) (xw_hasBit (by omega) (lc_br (fun hf => nm_r (nI_1 i) (ih (i + 1) (by omega) (lt_s h3 (fun z => by rw [hf] at z; exact absurd z (by decide))))) (fun ht => ⟨w, ?_⟩)))
    rw [e]
    exact br_c (fun z => nm_r (nI_1 i) (ih (i + 1) (by omega) (lt_s h3 (fun _ => z)))) (fun z => ⟨w, h1 i (by omega) ht z⟩)
theorem xw_testers_l {post : Int32 → Prop} {mask : Int64} {p : Nat} (hp : p < 32) (hN : clc < 64) (h : ∀ r, post r) : ∀ d i x, i + d = clc → wX_testers_6 post mask (nI p) (nI tt) (nI rl) (nI rt) ph (nI cc) (nI rc) ro (nI nc) (nI hlc) (nI clc) (nI sc) solM livM misF (nI qt) lr a_ctorType a_ctorFirst a_ctorSecond a_typeSize a_typeCtors a_rowFirst a_rowSize a_guardKind a_guardA a_guardB a_clauseFirst a_nodeKind a_nodeArg a_nodePos a_nodeRow a_altOf a_altSide a_nodeNew a_after a_holePos a_holeType a_holeOwner a_holeSide a_clauseRow a_clauseNodes a_clauseTests a_testHead a_clauseBind a_litCount a_lits a_freshInt a_stateMask a_stateOpen a_statePos a_stateNext a_child a_bucketHead a_pin a_marked a_queue a_val a_valType a_bound (d + 1) x (nI i) := by
  intro d
  induction d with
  | zero =>
    intro i x h2
    have : i = clc := by omega
    subst this
    exact br_t (nI_le (by omega) (by omega)) (h x)
  | succ d ih =>
    intro i x h2
    have w : vp_in (nI i) 64 := vp_in_nI (by omega) (by omega)
    exact br_f (nI_ge (by omega) (by omega)) (xw_hasBit (by omega) (lc_br (fun hf => nm_r (nI_1 i) (ih (i + 1) x (by omega))) (fun ht => ⟨w, br_c (fun _ => nm_r (nI_1 i) (ih (i + 1) x (by omega))) (fun _ => nm_e (nm_r (nI_1 i) (ih (i + 1) _ (by omega))))⟩)))
theorem xw_testers {post : Int32 → Prop} {mask : Int64} {p : Nat} (hp : p < 32) (hN : clc < 64) (h : ∀ r, post r) : wpX_testers post (nI tt, nI rl, nI rt, ph, nI cc, nI rc, ro, nI nc, nI hlc, nI clc, nI sc, solM, livM, misF, nI qt, lr, a_ctorType, a_ctorFirst, a_ctorSecond, a_typeSize, a_typeCtors, a_rowFirst, a_rowSize, a_guardKind, a_guardA, a_guardB, a_clauseFirst, a_nodeKind, a_nodeArg, a_nodePos, a_nodeRow, a_altOf, a_altSide, a_nodeNew, a_after, a_holePos, a_holeType, a_holeOwner, a_holeSide, a_clauseRow, a_clauseNodes, a_clauseTests, a_testHead, a_clauseBind, a_litCount, a_lits, a_freshInt, a_stateMask, a_stateOpen, a_statePos, a_stateNext, a_child, a_bucketHead, a_pin, a_marked, a_queue, a_val, a_valType, a_bound) mask (nI p) := ⟨clc + 1, xw_testers_l hp hN h clc 0 0 (by omega)⟩
theorem xc_n0 {LC TS : Nat → Int32} {p : Nat} : xc_n LC TS p 0 = (LC p).toNatClampNeg + 1 := if_pos rfl
theorem xc_nk {LC TS : Nat → Int32} {p k : Nat} (h1 : 1 ≤ k) (h4 : k ≤ 4) : xc_n LC TS p (nI k) = (TS k).toNatClampNeg := by
  unfold xc_n
  rw [if_neg (nI_ne0 (by omega) (by omega)), if_pos ⟨nI_lt (a := 0) (b := k) (by omega) (by omega), nI_le (a := k) (b := 4) h4 (by omega)⟩, nI_clamp (by omega)]
theorem xw_candCount {post : Int32 → Prop} {p k : Nat} (hL : xc_L a_litCount a_typeSize) (p1 : 1 ≤ p) (p7 : p ≤ 7) (hk : k ≤ 4) (h : post (nI (xc_n a_litCount a_typeSize p (nI k)))) : wpX_candCount post (nI tt, nI rl, nI rt, ph, nI cc, nI rc, ro, nI nc, nI hlc, nI clc, nI sc, solM, livM, misF, nI qt, lr, a_ctorType, a_ctorFirst, a_ctorSecond, a_typeSize, a_typeCtors, a_rowFirst, a_rowSize, a_guardKind, a_guardA, a_guardB, a_clauseFirst, a_nodeKind, a_nodeArg, a_nodePos, a_nodeRow, a_altOf, a_altSide, a_nodeNew, a_after, a_holePos, a_holeType, a_holeOwner, a_holeSide, a_clauseRow, a_clauseNodes, a_clauseTests, a_testHead, a_clauseBind, a_litCount, a_lits, a_freshInt, a_stateMask, a_stateOpen, a_statePos, a_stateNext, a_child, a_bucketHead, a_pin, a_marked, a_queue, a_val, a_valType, a_bound) (nI p) (nI k) := by
  have e : (nI p).toNatClampNeg = p := nI_clamp (by omega)
  by_cases k0 : k = 0
  · subst k0
    obtain ⟨m, m4, em⟩ := hL.1 p p1 p7
    refine br_t rfl ⟨vp_in_nI (by omega) (by omega), ?_⟩
    rw [e, em, nI_1]
    rw [show nI 0 = (0 : Int32) from rfl, xc_n0, em, nI_clamp (by split at m4 <;> omega)] at h
    exact h
  · obtain ⟨s, s3, es⟩ := hL.2 k (by omega) hk
    refine br_f (nI_ne0 (by omega) (by omega)) ⟨vp_in_nI (by omega) (by omega), ?_⟩
    rw [nI_clamp (by omega : k < 2 ^ 31), es]
    rw [xc_nk (by omega) hk, es, nI_clamp (by omega)] at h
    exact h
theorem xw_candHead {post : Int32 → Prop} {p k i : Nat} (hL : xc_L a_litCount a_typeSize) (p1 : 1 ≤ p) (p7 : p ≤ 7) (hk : k ≤ 4) (hi : i < xc_n a_litCount a_typeSize p (nI k)) (h : post (xc_d a_litCount a_lits a_freshInt a_typeCtors p (nI k) i)) : wpX_candHead post (nI tt, nI rl, nI rt, ph, nI cc, nI rc, ro, nI nc, nI hlc, nI clc, nI sc, solM, livM, misF, nI qt, lr, a_ctorType, a_ctorFirst, a_ctorSecond, a_typeSize, a_typeCtors, a_rowFirst, a_rowSize, a_guardKind, a_guardA, a_guardB, a_clauseFirst, a_nodeKind, a_nodeArg, a_nodePos, a_nodeRow, a_altOf, a_altSide, a_nodeNew, a_after, a_holePos, a_holeType, a_holeOwner, a_holeSide, a_clauseRow, a_clauseNodes, a_clauseTests, a_testHead, a_clauseBind, a_litCount, a_lits, a_freshInt, a_stateMask, a_stateOpen, a_statePos, a_stateNext, a_child, a_bucketHead, a_pin, a_marked, a_queue, a_val, a_valType, a_bound) (nI p) (nI k) (nI i) := by
  have e : (nI p).toNatClampNeg = p := nI_clamp (by omega)
  by_cases k0 : k = 0
  · subst k0
    obtain ⟨m, m4, em⟩ := hL.1 p p1 p7
    rw [show nI 0 = (0 : Int32) from rfl, xc_n0, em, nI_clamp (by split at m4 <;> omega)] at hi
    have m4' : m ≤ 4 := by split at m4 <;> omega
    unfold xc_d at h
    rw [show nI 0 = (0 : Int32) from rfl, if_pos rfl, em, nI_clamp (by omega)] at h
    have w : vp_in (nI p) 8 := vp_in_nI (by omega) (by omega)
    refine br_t rfl ⟨w, ?_⟩
    rw [e, em]
    refine pk_le m i (fun z => ⟨w, ?_⟩) (fun z => ?_)
    · rw [if_neg (by omega)] at h; exact h
    · rw [if_pos z] at h
      have e2 : nI p * 4 + nI i = nI (p * 4 + i) := by rw [show (4 : Int32) = nI 4 from rfl, pk_mul, nI_add]
      rw [e2]
      refine ⟨vp_in_nI (by omega) (by omega), ?_⟩
      rw [nI_clamp (by omega)]
      exact h
  · obtain ⟨s, s3, es⟩ := hL.2 k (by omega) hk
    rw [xc_nk (by omega) hk, es, nI_clamp (by omega)] at hi
    unfold xc_d at h
    rw [if_neg (nI_ne0 (by omega) (by omega)), nI_clamp (by omega)] at h
    refine br_f (nI_ne0 (by omega) (by omega)) ?_
    have e2 : nI k * 3 + nI i = nI (k * 3 + i) := by rw [show (3 : Int32) = nI 3 from rfl, pk_mul, nI_add]
    rw [e2]
    refine ⟨vp_in_nI (by omega) (by omega), ?_⟩
    rw [nI_clamp (by omega)]
    exact h
theorem xw_choose_l {post : Int32 → Prop} {mask : Int64} {o x5 : Int32} (hN : clc < 64) (hL : xc_L a_litCount a_typeSize) (hty : xc_ty o) (hx : ∀ p, 1 ≤ p → p ≤ 7 → bt x5 p = true → bi_ot o p ≠ -1)
    (h0 : (∀ p, 1 ≤ p → p ≤ 7 → bt x5 p = false) → post 0) (h1 : ∀ p, 1 ≤ p → p ≤ 7 → bi_ot o p ≠ -1 → post (nI p)) :
    ∀ d i x6 x7, i + d = 8 → 1 ≤ i → ((x6 = 0 ∧ ∀ p, 1 ≤ p → p < i → bt x5 p = false) ∨ ∃ p, 1 ≤ p ∧ p ≤ 7 ∧ bi_ot o p ≠ -1 ∧ x6 = nI p) → wX_chooseColumn_25 post mask o x5 (nI tt) (nI rl) (nI rt) ph (nI cc) (nI rc) ro (nI nc) (nI hlc) (nI clc) (nI sc) solM livM misF (nI qt) lr a_ctorType a_ctorFirst a_ctorSecond a_typeSize a_typeCtors a_rowFirst a_rowSize a_guardKind a_guardA a_guardB a_clauseFirst a_nodeKind a_nodeArg a_nodePos a_nodeRow a_altOf a_altSide a_nodeNew a_after a_holePos a_holeType a_holeOwner a_holeSide a_clauseRow a_clauseNodes a_clauseTests a_testHead a_clauseBind a_litCount a_lits a_freshInt a_stateMask a_stateOpen a_statePos a_stateNext a_child a_bucketHead a_pin a_marked a_queue a_val a_valType a_bound (d + 1) x6 x7 (nI i) := by
  intro d
  induction d with
  | zero =>
    intro i x6 x7 h2 h3 h4
    have : i = 8 := by omega
    subst this
    refine br_t (nI_le (a := 8) (b := 8) (by omega) (by omega)) ?_
    rcases h4 with ⟨rfl, h4⟩ | ⟨p, p1, p7, p2, rfl⟩
    · exact h0 (fun p p1 p7 => h4 p p1 (by omega))
    · exact h1 p p1 p7 p2
  | succ d ih =>
    intro i x6 x7 h2 h3 h4
    refine br_f (nI_ge (a := i) (b := 8) (by omega) (by omega)) (xw_tbit (by omega) (fun hf => nm_r (nI_1 i) (ih (i + 1) x6 x7 (by omega) (by omega) ?_)) (fun ht => ?_))
    · rcases h4 with ⟨rfl, h4⟩ | h4
      · refine Or.inl ⟨rfl, fun p p1 p2 => ?_⟩
        by_cases q : p = i
        · subst q; exact hf
        · exact h4 p p1 (by omega)
      · exact Or.inr h4
    · have hop := hx i h3 (by omega) ht
      obtain ⟨k, k4, ek⟩ := hty i h3 (by omega) hop
      have here : ∀ x7, wX_chooseColumn_25 post mask o x5 (nI tt) (nI rl) (nI rt) ph (nI cc) (nI rc) ro (nI nc) (nI hlc) (nI clc) (nI sc) solM livM misF (nI qt) lr a_ctorType a_ctorFirst a_ctorSecond a_typeSize a_typeCtors a_rowFirst a_rowSize a_guardKind a_guardA a_guardB a_clauseFirst a_nodeKind a_nodeArg a_nodePos a_nodeRow a_altOf a_altSide a_nodeNew a_after a_holePos a_holeType a_holeOwner a_holeSide a_clauseRow a_clauseNodes a_clauseTests a_testHead a_clauseBind a_litCount a_lits a_freshInt a_stateMask a_stateOpen a_statePos a_stateNext a_child a_bucketHead a_pin a_marked a_queue a_val a_valType a_bound (d + 1) (nI i) x7 (nI (i + 1)) := fun x7 => ih (i + 1) _ x7 (by omega) (by omega) (Or.inr ⟨i, h3, by omega, hop, rfl⟩)
      show wpX_openType _ _ _ _
      unfold wpX_openType
      dsimp only
      rw [show ((o >>> ((3 * nI i) &&& 31)) &&& 7) - 1 = nI k from ek]
      refine xw_testers (by omega) hN (fun r => xw_candCount hL h3 (by omega) k4 (nm_e (br_c (fun z => nm_r (nI_1 i) (here _)) (fun z => br_c (fun _ => nm_r (nI_1 i) (ih (i + 1) x6 x7 (by omega) (by omega) ?_)) (fun _ => nm_r (nI_1 i) (here _))))))
      rcases h4 with ⟨z2, _⟩ | h4
      · exact absurd z2 z
      · exact Or.inr h4
theorem xw_choose {post : Int32 → Prop} {mask : Int64} {o : Int32} (hN : clc < 64) (hL : xc_L a_litCount a_typeSize) (hty : xc_ty o) (hm : ∀ c, bi_L mask c = true → c < clc)
    (h0 : (∀ c, bi_L mask c = true → gh_no (xc_t a_clauseTests) (bi_ot o) c) → post 0) (h1 : ∀ p, 1 ≤ p → p ≤ 7 → bi_ot o p ≠ -1 → post (nI p)) : wpX_chooseColumn post (nI tt, nI rl, nI rt, ph, nI cc, nI rc, ro, nI nc, nI hlc, nI clc, nI sc, solM, livM, misF, nI qt, lr, a_ctorType, a_ctorFirst, a_ctorSecond, a_typeSize, a_typeCtors, a_rowFirst, a_rowSize, a_guardKind, a_guardA, a_guardB, a_clauseFirst, a_nodeKind, a_nodeArg, a_nodePos, a_nodeRow, a_altOf, a_altSide, a_nodeNew, a_after, a_holePos, a_holeType, a_holeOwner, a_holeSide, a_clauseRow, a_clauseNodes, a_clauseTests, a_testHead, a_clauseBind, a_litCount, a_lits, a_freshInt, a_stateMask, a_stateOpen, a_statePos, a_stateNext, a_child, a_bucketHead, a_pin, a_marked, a_queue, a_val, a_valType, a_bound) mask o := by
  unfold wpX_chooseColumn
  dsimp only
  refine xw_openBits (fun bits hb => ?_)
  refine ⟨clc + 1, xw_firstNeeds_l hN (fun hz => ⟨8, xw_choose_l hN hL hty (fun p p1 p7 ht => by rw [b_0] at ht; exact absurd ht (by decide)) (fun _ => h0 (fun c hc => (xw_no hb).mp (hz c (hm c hc) hc))) h1 7 1 0 0 rfl (by omega) (Or.inl ⟨rfl, fun p a b => by omega⟩)⟩) (fun c c1 c2 c3 => ⟨8, xw_choose_l hN hL hty (fun p p1 p7 ht => ?_) (fun hz => ?_) h1 7 1 0 0 rfl (by omega) (Or.inl ⟨rfl, fun p a b => by omega⟩)⟩) clc 0 (by omega) (fun c hc => by omega)⟩
  · rw [b_and, hb p (by omega)] at ht
    have q : 1 ≤ p ∧ p < 8 := by omega
    simp [q] at ht
    exact ht.2
  · exfalso
    apply c3
    rw [bi_tand]
    intro i hi ht
    rw [hb i hi]
    by_cases q : 1 ≤ i ∧ i < 8
    · have := hz i q.1 (by omega)
      rw [b_and, ht, hb i hi] at this
      simpa [q] using this
    · simp [q]
theorem xw_spec_l {post : Int64 → Prop} {mask : Int64} {p : Nat} {hh : Int32} (p1 : 1 ≤ p) (p7 : p ≤ 7) (hN : clc < 64) (hm : ∀ c, bi_L mask c = true → c < clc)
    (h : ∀ m1, (∀ c, bi_L m1 c = true ↔ bi_L mask c = true ∧ (xc_t a_clauseTests c p = true → xc_h a_testHead c p = hh)) → post m1) :
    ∀ d i m1, i + d = clc → (∀ c, bi_L m1 c = true ↔ bi_L mask c = true ∧ (c < i → xc_t a_clauseTests c p = true → xc_h a_testHead c p = hh)) → wX_specialise_6 post (nI p) hh (nI tt) (nI rl) (nI rt) ph (nI cc) (nI rc) ro (nI nc) (nI hlc) (nI clc) (nI sc) solM livM misF (nI qt) lr a_ctorType a_ctorFirst a_ctorSecond a_typeSize a_typeCtors a_rowFirst a_rowSize a_guardKind a_guardA a_guardB a_clauseFirst a_nodeKind a_nodeArg a_nodePos a_nodeRow a_altOf a_altSide a_nodeNew a_after a_holePos a_holeType a_holeOwner a_holeSide a_clauseRow a_clauseNodes a_clauseTests a_testHead a_clauseBind a_litCount a_lits a_freshInt a_stateMask a_stateOpen a_statePos a_stateNext a_child a_bucketHead a_pin a_marked a_queue a_val a_valType a_bound (d + 1) m1 (nI i) := by
  intro d
  induction d with
  | zero =>
    intro i m1 h1 h2
    have : i = clc := by omega
    subst this
    refine br_t (nI_le (by omega) (by omega)) (h m1 (fun c => ?_))
    rw [h2 c]
    exact ⟨fun ⟨a, b⟩ => ⟨a, b (hm c a)⟩, fun ⟨a, b⟩ => ⟨a, fun _ => b⟩⟩
  | succ d ih =>
    intro i m1 h1 h2
    have e : (nI i).toNatClampNeg = i := nI_clamp (by omega)
    have w : vp_in (nI i) 64 := vp_in_nI (by omega) (by omega)
    have e2 : nI i * 8 + nI p = nI (i * 8 + p) := by rw [show (8 : Int32) = nI 8 from rfl, pk_mul, nI_add]
    refine br_f (nI_ge (by omega) (by omega)) ⟨w, ?_⟩
    rw [e, e2, nI_clamp (by omega : i * 8 + p < 2 ^ 31)]
    refine xw_tbit (by omega) (fun hf => nm_r (nI_1 i) (ih (i + 1) m1 (by omega) (fun c => ?_))) (fun ht => ⟨vp_in_nI (by omega) (by omega), br_c (fun z => nm_r (nI_1 i) (ih (i + 1) m1 (by omega) (fun c => ?_))) (fun z => nm_e (nm_r (nI_1 i) (ih (i + 1) _ (by omega) (fun c => ?_))))⟩)
    · rw [h2 c]
      by_cases q : c = i
      · subst q
        exact ⟨fun ⟨a, _⟩ => ⟨a, fun _ z => by rw [show xc_t a_clauseTests c p = bt (a_clauseTests c) p from rfl, hf] at z; exact absurd z (by decide)⟩, fun ⟨a, _⟩ => ⟨a, fun z => by omega⟩⟩
      · exact ⟨fun ⟨a, b⟩ => ⟨a, fun z => b (by omega)⟩, fun ⟨a, b⟩ => ⟨a, fun z => b (by omega)⟩⟩
    · rw [h2 c]
      by_cases q : c = i
      · subst q
        exact ⟨fun ⟨a, _⟩ => ⟨a, fun _ _ => z⟩, fun ⟨a, _⟩ => ⟨a, fun z => by omega⟩⟩
      · exact ⟨fun ⟨a, b⟩ => ⟨a, fun z => b (by omega)⟩, fun ⟨a, b⟩ => ⟨a, fun z => b (by omega)⟩⟩
    · rw [bi_clr (by omega)]
      by_cases q : c = i
      · subst q
        simp only [decide_true, Bool.not_true, Bool.and_false]
        exact ⟨fun y => absurd y (by decide), fun ⟨a, b⟩ => absurd (b (by omega) ht) z⟩
      · have q2 : decide (c = i) = false := decide_eq_false q
        rw [q2, Bool.not_false, Bool.and_true, h2 c]
        exact ⟨fun ⟨a, b⟩ => ⟨a, fun z => b (by omega)⟩, fun ⟨a, b⟩ => ⟨a, fun z => b (by omega)⟩⟩
theorem xw_spec {post : Int64 → Prop} {mask : Int64} {p : Nat} {hh : Int32} (p1 : 1 ≤ p) (p7 : p ≤ 7) (hN : clc < 64) (hm : ∀ c, bi_L mask c = true → c < clc)
    (h : ∀ m1, (∀ c, bi_L m1 c = true ↔ bi_L mask c = true ∧ (xc_t a_clauseTests c p = true → xc_h a_testHead c p = hh)) → post m1) : wpX_specialise post (nI tt, nI rl, nI rt, ph, nI cc, nI rc, ro, nI nc, nI hlc, nI clc, nI sc, solM, livM, misF, nI qt, lr, a_ctorType, a_ctorFirst, a_ctorSecond, a_typeSize, a_typeCtors, a_rowFirst, a_rowSize, a_guardKind, a_guardA, a_guardB, a_clauseFirst, a_nodeKind, a_nodeArg, a_nodePos, a_nodeRow, a_altOf, a_altSide, a_nodeNew, a_after, a_holePos, a_holeType, a_holeOwner, a_holeSide, a_clauseRow, a_clauseNodes, a_clauseTests, a_testHead, a_clauseBind, a_litCount, a_lits, a_freshInt, a_stateMask, a_stateOpen, a_statePos, a_stateNext, a_child, a_bucketHead, a_pin, a_marked, a_queue, a_val, a_valType, a_bound) mask (nI p) hh :=
  ⟨clc + 1, xw_spec_l p1 p7 hN hm h clc 0 mask (by omega) (fun c => ⟨fun a => ⟨a, fun z => by omega⟩, fun a => a.1⟩)⟩
theorem xw_isCtor {post : Int32 → Prop} {x : Int32} (h0 : (x < 0 ∨ nI cc ≤ x) → post 0) (h1 : ¬ x < 0 → ¬ nI cc ≤ x → post 1) : wpX_isCtor post (nI tt, nI rl, nI rt, ph, nI cc, nI rc, ro, nI nc, nI hlc, nI clc, nI sc, solM, livM, misF, nI qt, lr, a_ctorType, a_ctorFirst, a_ctorSecond, a_typeSize, a_typeCtors, a_rowFirst, a_rowSize, a_guardKind, a_guardA, a_guardB, a_clauseFirst, a_nodeKind, a_nodeArg, a_nodePos, a_nodeRow, a_altOf, a_altSide, a_nodeNew, a_after, a_holePos, a_holeType, a_holeOwner, a_holeSide, a_clauseRow, a_clauseNodes, a_clauseTests, a_testHead, a_clauseBind, a_litCount, a_lits, a_freshInt, a_stateMask, a_stateOpen, a_statePos, a_stateNext, a_child, a_bucketHead, a_pin, a_marked, a_queue, a_val, a_valType, a_bound) x :=
  br_c (fun z => h0 (Or.inl z)) (fun z => br_c (fun y => h0 (Or.inr y)) (fun y => h1 z y))
/-- fields of the constructors -/
def xc_F (cc : Nat) (C1 C2 : Nat → Int32) : Prop := ∀ c, c < cc → (∃ j, j < 6 ∧ C1 c + 1 = nI j) ∧ ∃ j, j < 6 ∧ C2 c + 1 = nI j
theorem xw_openAfter {post : Int32 → Prop} {o h : Int32} {p k : Nat} (hcc : cc ≤ 12) (hF : xc_F cc a_ctorFirst a_ctorSecond) (p1 : 1 ≤ p) (p7 : p ≤ 7) (hk : k ≤ 4) (hA : ∀ q, q / 2 = p → q ≤ 7 → bi_ot o q = -1)
    (K : ∀ r, (∀ q, 1 ≤ q → q ≤ 7 → bi_ot r q = if q = p then -1 else if q / 2 = p then xc_f cc a_ctorFirst a_ctorSecond (nI k) h q else bi_ot o q) → post r) : wpX_openAfter post (nI tt, nI rl, nI rt, ph, nI cc, nI rc, ro, nI nc, nI hlc, nI clc, nI sc, solM, livM, misF, nI qt, lr, a_ctorType, a_ctorFirst, a_ctorSecond, a_typeSize, a_typeCtors, a_rowFirst, a_rowSize, a_guardKind, a_guardA, a_guardB, a_clauseFirst, a_nodeKind, a_nodeArg, a_nodePos, a_nodeRow, a_altOf, a_altSide, a_nodeNew, a_after, a_holePos, a_holeType, a_holeOwner, a_holeSide, a_clauseRow, a_clauseNodes, a_clauseTests, a_testHead, a_clauseBind, a_litCount, a_lits, a_freshInt, a_stateMask, a_stateOpen, a_statePos, a_stateNext, a_child, a_bucketHead, a_pin, a_marked, a_queue, a_val, a_valType, a_bound) o (nI p) (nI k) h := by
  have plain : (∀ q, q / 2 = p → q ≤ 7 → xc_f cc a_ctorFirst a_ctorSecond (nI k) h q = -1) → post (o &&& (((7 : Int32) <<< ((3 * nI p) &&& 31)) ^^^ (-1))) := by
    intro hz
    refine K _ (fun q q1 q7 => ?_)
    rw [bi_close o p7 q7]
    by_cases e : q = p
    · rw [if_pos e, if_pos e]
    · rw [if_neg e, if_neg e]
      by_cases e2 : q / 2 = p
      · rw [if_pos e2, hz q e2 q7, hA q e2 q7]
      · rw [if_neg e2]
  refine nm_e (br_c (fun z => plain (fun q a b => ?_)) (fun z => br_c (fun y => plain (fun q a b => ?_)) (fun y => xw_isCtor (fun hx => br_t rfl (plain (fun q a b => ?_))) (fun x0 x1 => br_f (by decide) ?_))))
  · unfold xc_f; rw [if_pos (Or.inl (by rw [z]; decide))]
  · have : ¬ p ≤ 3 := fun w => Int32.not_lt.mpr (nI_le (a := p) (b := 3) w (by omega)) y
    omega
  · unfold xc_f
    rcases hx with hx | hx
    · rw [if_pos (Or.inr (Or.inl hx))]
    · rw [if_pos (Or.inr (Or.inr hx))]
  · obtain ⟨c, _, rfl⟩ := nI_of x0
    have hc : c < cc := by
      rcases Nat.lt_or_ge c cc with w | w
      · exact w
      · exact absurd (nI_le w (by assumption)) x1
    have hp3 : p ≤ 3 := by
      rcases Nat.lt_or_ge 3 p with w | w
      · exact absurd (nI_lt (a := 3) (b := p) w (by omega)) y
      · exact w
    have wc : vp_in (nI c) 12 := vp_in_nI (by omega) (by omega)
    have k1 : ¬ k = 0 := fun w => z (by rw [w]; rfl)
    obtain ⟨⟨j1, a1, b1⟩, ⟨j2, a2, b2⟩⟩ := hF c hc
    have e6 : (6 : Int32) * nI p = nI (3 * (2 * p)) := by
      rw [show (6 : Int32) = nI 6 from rfl, pk_mul]; exact congrArg nI (by omega)
    have e63 : (6 : Int32) * nI p + 3 = nI (3 * (2 * p + 1)) := by
      rw [show (6 : Int32) = nI 6 from rfl, pk_mul, show (3 : Int32) = nI 3 from rfl, nI_add]; exact congrArg nI (by omega)
    have hcl : (nI c).toNatClampNeg = c := nI_clamp (by omega)
    refine ⟨wc, nm_e ⟨wc, nm_e (K _ (fun q q1 q7 => ?_))⟩⟩
    rw [hcl]
    have f1 : ∀ q, q ≤ 7 → bi_ot (o &&& (((7 : Int32) <<< ((3 * nI p) &&& 31)) ^^^ (-1)) ||| ((a_ctorFirst c + 1) <<< ((6 * nI p) &&& 31))) q = if q = 2 * p then a_ctorFirst c else if q = p then -1 else bi_ot o q := by
      intro q q7
      rw [bi_ins _ _ e6 (by omega) q7 a1 b1, bi_close o p7 q7]
      rw [bi_close o p7 (by omega), if_neg (by omega)]
      exact hA (2 * p) (by omega) (by omega)
    rw [bi_ins _ _ e63 (by omega) q7 a2 b2, f1 q q7]
    · have hcond : ¬ (nI k < 1 ∨ nI c < 0 ∨ nI cc ≤ nI c) := by
        rintro (w | w | w)
        · exact absurd w (nI_nlt (a := k) (b := 1) (by omega) (by omega))
        · exact x0 w
        · exact x1 w
      unfold xc_f
      rw [if_neg hcond, hcl]
      by_cases q1' : q = 2 * p + 1
      · rw [if_pos q1', if_neg (by omega), if_pos (by omega), if_neg (by omega)]
      · rw [if_neg q1']
        by_cases q2 : q = 2 * p
        · rw [if_pos q2, if_neg (by omega), if_pos (by omega), if_pos (by omega)]
        · rw [if_neg q2]
          by_cases q3 : q = p
          · rw [if_pos q3, if_pos q3]
          · rw [if_neg q3, if_neg q3, if_neg (by omega)]
    · rw [f1 _ (by omega), if_neg (by omega), if_neg (by omega)]
      exact hA (2 * p + 1) (by omega) (by omega)
end
end
section
/-! X: the graph's making -/
def xg_ch (sc : Nat) (NX BH : Nat → Int32) : Prop := (∀ b, b < 1024 → BH b = -1 ∨ ∃ s, s < sc ∧ BH b = nI s) ∧ ∀ s, s < sc → NX s = -1 ∨ ∃ s', s' < sc ∧ NX s = nI s'
def xi_R (sc : Nat) (MK : Nat → Int64) (OP PS : Nat → Int32) (mask : Int64) (o : Int32) (s sc' : Nat) (MK' : Nat → Int64) (OP' PS' : Nat → Int32) : Prop :=
  s < sc' ∧ (sc' = sc ∨ (sc' = sc + 1 ∧ s = sc ∧ PS' sc = 0)) ∧ MK' s = mask ∧ OP' s = o ∧ ∀ j, j < sc → MK' j = MK j ∧ OP' j = OP j ∧ PS' j = PS j
section
variable {tt rl rt cc rc nc hlc clc sc qt : Nat} {ph ro misF lr : Int32} {solM livM : Int64} {a_ctorType a_ctorFirst a_ctorSecond a_typeSize a_typeCtors a_rowFirst a_rowSize a_guardKind a_guardA a_guardB a_clauseFirst a_nodeKind a_nodeArg a_nodePos a_nodeRow a_altOf a_altSide a_nodeNew a_after a_holePos a_holeType a_holeOwner a_holeSide a_clauseRow a_clauseTests a_testHead a_clauseBind a_litCount a_lits a_freshInt a_stateOpen a_statePos a_stateNext a_child a_bucketHead a_pin a_marked a_queue a_val a_valType a_bound : Nat → Int32} {a_clauseNodes a_stateMask : Nat → Int64}
theorem xw_intern_new {post : Int32 → SX → Prop} {mask : Int64} {o : Int32} {b : Nat} (hsc : sc < 4374) (hb : b < 1024) (hch : xg_ch sc a_stateNext a_bucketHead)
    (h : ∀ s sc' MK' OP' PS' NX' BH', xi_R sc a_stateMask a_stateOpen a_statePos mask o s sc' MK' OP' PS' → xg_ch sc' NX' BH' → post (nI s) (nI tt, nI rl, nI rt, ph, nI cc, nI rc, ro, nI nc, nI hlc, nI clc, nI sc', solM, livM, misF, nI qt, lr, a_ctorType, a_ctorFirst, a_ctorSecond, a_typeSize, a_typeCtors, a_rowFirst, a_rowSize, a_guardKind, a_guardA, a_guardB, a_clauseFirst, a_nodeKind, a_nodeArg, a_nodePos, a_nodeRow, a_altOf, a_altSide, a_nodeNew, a_after, a_holePos, a_holeType, a_holeOwner, a_holeSide, a_clauseRow, a_clauseNodes, a_clauseTests, a_testHead, a_clauseBind, a_litCount, a_lits, a_freshInt, MK', OP', PS', NX', a_child, BH', a_pin, a_marked, a_queue, a_val, a_valType, a_bound)) : wX_intern_95 post mask o (nI b) (nI tt) (nI rl) (nI rt) ph (nI cc) (nI rc) ro (nI nc) (nI hlc) (nI clc) (nI sc) solM livM misF (nI qt) lr a_ctorType a_ctorFirst a_ctorSecond a_typeSize a_typeCtors a_rowFirst a_rowSize a_guardKind a_guardA a_guardB a_clauseFirst a_nodeKind a_nodeArg a_nodePos a_nodeRow a_altOf a_altSide a_nodeNew a_after a_holePos a_holeType a_holeOwner a_holeSide a_clauseRow a_clauseNodes a_clauseTests a_testHead a_clauseBind a_litCount a_lits a_freshInt a_stateMask a_stateOpen a_statePos a_stateNext a_child a_bucketHead a_pin a_marked a_queue a_val a_valType a_bound := by
  have e : (nI sc).toNatClampNeg = sc := nI_clamp (by omega)
  have eb : (nI b).toNatClampNeg = b := nI_clamp (by omega)
  have w : vp_in (nI sc) 4374 := vp_in_nI hsc (by omega)
  have wb : vp_in (nI b) 1024 := vp_in_nI hb (by omega)
  refine br_t (nI_lt (a := sc) (b := 4374) hsc (by omega)) ⟨w, nm_r (e' := vp_updL a_stateMask sc mask) (by rw [e]) ⟨w, nm_r (e' := upd a_stateOpen sc o) (by rw [e]) ⟨w, nm_r (e' := upd a_statePos sc 0) (by rw [e]) ⟨wb, w, nm_r (e' := upd a_stateNext sc (a_bucketHead b)) (by rw [e, eb]) ⟨wb, nm_r (e' := upd a_bucketHead b (nI sc)) (by rw [eb]) (nm_r (nI_1 sc) (h sc (sc + 1) _ _ _ _ _ ⟨by omega, Or.inr ⟨rfl, rfl, pk_us⟩, pk_uLs, pk_us, fun j hj => ⟨pk_uLn (by omega), pk_un (by omega), pk_un (by omega)⟩⟩ ⟨fun x hx => ?_, fun j hj => ?_⟩))⟩⟩⟩⟩⟩
  · by_cases q : x = b
    · subst q; exact Or.inr ⟨sc, by omega, pk_us⟩
    · rw [pk_un q]
      rcases hch.1 x hx with z | ⟨s, s1, s2⟩
      · exact Or.inl z
      · exact Or.inr ⟨s, by omega, s2⟩
  · by_cases q : j = sc
    · subst q
      rw [pk_us]
      rcases hch.1 b hb with z | ⟨s, s1, s2⟩
      · exact Or.inl z
      · exact Or.inr ⟨s, by omega, s2⟩
    · rw [pk_un q]
      rcases hch.2 j (by omega) with z | ⟨s, s1, s2⟩
      · exact Or.inl z
      · exact Or.inr ⟨s, by omega, s2⟩
theorem xw_intern_l {post : Int32 → SX → Prop} {mask : Int64} {o : Int32} {b : Nat} (hsc : sc < 4374) (hb : b < 1024) (hch : xg_ch sc a_stateNext a_bucketHead)
    (h : ∀ s sc' MK' OP' PS' NX' BH', xi_R sc a_stateMask a_stateOpen a_statePos mask o s sc' MK' OP' PS' → xg_ch sc' NX' BH' → post (nI s) (nI tt, nI rl, nI rt, ph, nI cc, nI rc, ro, nI nc, nI hlc, nI clc, nI sc', solM, livM, misF, nI qt, lr, a_ctorType, a_ctorFirst, a_ctorSecond, a_typeSize, a_typeCtors, a_rowFirst, a_rowSize, a_guardKind, a_guardA, a_guardB, a_clauseFirst, a_nodeKind, a_nodeArg, a_nodePos, a_nodeRow, a_altOf, a_altSide, a_nodeNew, a_after, a_holePos, a_holeType, a_holeOwner, a_holeSide, a_clauseRow, a_clauseNodes, a_clauseTests, a_testHead, a_clauseBind, a_litCount, a_lits, a_freshInt, MK', OP', PS', NX', a_child, BH', a_pin, a_marked, a_queue, a_val, a_valType, a_bound)) :
    ∀ d i x7, i + d = sc → (x7 = -1 ∨ ∃ s, s < sc ∧ x7 = nI s) → wX_intern_40 post mask o (nI b) (nI tt) (nI rl) (nI rt) ph (nI cc) (nI rc) ro (nI nc) (nI hlc) (nI clc) (nI sc) solM livM misF (nI qt) lr a_ctorType a_ctorFirst a_ctorSecond a_typeSize a_typeCtors a_rowFirst a_rowSize a_guardKind a_guardA a_guardB a_clauseFirst a_nodeKind a_nodeArg a_nodePos a_nodeRow a_altOf a_altSide a_nodeNew a_after a_holePos a_holeType a_holeOwner a_holeSide a_clauseRow a_clauseNodes a_clauseTests a_testHead a_clauseBind a_litCount a_lits a_freshInt a_stateMask a_stateOpen a_statePos a_stateNext a_child a_bucketHead a_pin a_marked a_queue a_val a_valType a_bound (d + 1) x7 (nI i) := by
  intro d
  induction d with
  | zero =>
    intro i x7 h1 h2
    have : i = sc := by omega
    subst this
    exact br_t (nI_le (by omega) (by omega)) (xw_intern_new hsc hb hch h)
  | succ d ih =>
    intro i x7 h1 h2
    refine br_f (nI_ge (by omega) (by omega)) ?_
    rcases h2 with rfl | ⟨s, hs, rfl⟩
    · exact br_t (by decide) (xw_intern_new hsc hb hch h)
    · have e : (nI s).toNatClampNeg = s := nI_clamp (by omega)
      have w : vp_in (nI s) 4374 := vp_in_nI (by omega) (by omega)
      refine br_f (nI_pos (by omega)) ⟨w, ?_⟩
      rw [e]
      refine br_c (fun z => ⟨w, br_c (fun y => h s sc _ _ _ _ _ ⟨hs, Or.inl rfl, z, y, fun j hj => ⟨rfl, rfl, rfl⟩⟩ hch) (fun y => ⟨w, nm_e (nm_r (nI_1 i) (ih (i + 1) _ (by omega) (hch.2 s hs)))⟩)⟩) (fun z => ⟨w, nm_e (nm_r (nI_1 i) (ih (i + 1) _ (by omega) (hch.2 s hs)))⟩)
theorem xw_intern {post : Int32 → SX → Prop} {mask : Int64} {o : Int32} (hsc : sc < 4374) (hch : xg_ch sc a_stateNext a_bucketHead)
    (h : ∀ s sc' MK' OP' PS' NX' BH', xi_R sc a_stateMask a_stateOpen a_statePos mask o s sc' MK' OP' PS' → xg_ch sc' NX' BH' → post (nI s) (nI tt, nI rl, nI rt, ph, nI cc, nI rc, ro, nI nc, nI hlc, nI clc, nI sc', solM, livM, misF, nI qt, lr, a_ctorType, a_ctorFirst, a_ctorSecond, a_typeSize, a_typeCtors, a_rowFirst, a_rowSize, a_guardKind, a_guardA, a_guardB, a_clauseFirst, a_nodeKind, a_nodeArg, a_nodePos, a_nodeRow, a_altOf, a_altSide, a_nodeNew, a_after, a_holePos, a_holeType, a_holeOwner, a_holeSide, a_clauseRow, a_clauseNodes, a_clauseTests, a_testHead, a_clauseBind, a_litCount, a_lits, a_freshInt, MK', OP', PS', NX', a_child, BH', a_pin, a_marked, a_queue, a_val, a_valType, a_bound)) : wpX_intern post (nI tt, nI rl, nI rt, ph, nI cc, nI rc, ro, nI nc, nI hlc, nI clc, nI sc, solM, livM, misF, nI qt, lr, a_ctorType, a_ctorFirst, a_ctorSecond, a_typeSize, a_typeCtors, a_rowFirst, a_rowSize, a_guardKind, a_guardA, a_guardB, a_clauseFirst, a_nodeKind, a_nodeArg, a_nodePos, a_nodeRow, a_altOf, a_altSide, a_nodeNew, a_after, a_holePos, a_holeType, a_holeOwner, a_holeSide, a_clauseRow, a_clauseNodes, a_clauseTests, a_testHead, a_clauseBind, a_litCount, a_lits, a_freshInt, a_stateMask, a_stateOpen, a_statePos, a_stateNext, a_child, a_bucketHead, a_pin, a_marked, a_queue, a_val, a_valType, a_bound) mask o := by
  unfold wpX_intern
  dsimp only
  intro x4 e4 x6 e6
  have hx : ∃ b, b < 1024 ∧ x6 = nI b := by rw [e6]; exact pk_andE _ 10 (by decide)
  obtain ⟨b, hb, rfl⟩ := hx
  refine ⟨vp_in_nI hb (by omega), ?_⟩
  rw [nI_clamp (by omega : b < 2 ^ 31)]
  exact nm_e ⟨sc + 1, xw_intern_l hsc hb hch h sc 0 _ (by omega) (hch.1 b hb)⟩
theorem xw_reach {post : Int32 → SX → Prop} {mask : Int64} {o : Int32} (hN : clc < 64) (hR : xc_ok a_clauseRow clc) (hm : ∀ c, bi_L mask c = true → c < clc) (hsc : sc < 4374) (hch : xg_ch sc a_stateNext a_bucketHead)
    (h : ∀ kept nd s sc' MK' OP' PS' NX' BH', gh_Red (xc_t a_clauseTests) (xc_r a_clauseRow) (xc_s a_clauseRow a_guardKind) (bi_L mask) (bi_ot o) (bi_L kept) (bi_ot nd) → xi_R sc a_stateMask a_stateOpen a_statePos kept nd s sc' MK' OP' PS' → xg_ch sc' NX' BH' → post (nI s) (nI tt, nI rl, nI rt, ph, nI cc, nI rc, ro, nI nc, nI hlc, nI clc, nI sc', solM, livM, misF, nI qt, lr, a_ctorType, a_ctorFirst, a_ctorSecond, a_typeSize, a_typeCtors, a_rowFirst, a_rowSize, a_guardKind, a_guardA, a_guardB, a_clauseFirst, a_nodeKind, a_nodeArg, a_nodePos, a_nodeRow, a_altOf, a_altSide, a_nodeNew, a_after, a_holePos, a_holeType, a_holeOwner, a_holeSide, a_clauseRow, a_clauseNodes, a_clauseTests, a_testHead, a_clauseBind, a_litCount, a_lits, a_freshInt, MK', OP', PS', NX', a_child, BH', a_pin, a_marked, a_queue, a_val, a_valType, a_bound)) : wpX_reach post (nI tt, nI rl, nI rt, ph, nI cc, nI rc, ro, nI nc, nI hlc, nI clc, nI sc, solM, livM, misF, nI qt, lr, a_ctorType, a_ctorFirst, a_ctorSecond, a_typeSize, a_typeCtors, a_rowFirst, a_rowSize, a_guardKind, a_guardA, a_guardB, a_clauseFirst, a_nodeKind, a_nodeArg, a_nodePos, a_nodeRow, a_altOf, a_altSide, a_nodeNew, a_after, a_holePos, a_holeType, a_holeOwner, a_holeSide, a_clauseRow, a_clauseNodes, a_clauseTests, a_testHead, a_clauseBind, a_litCount, a_lits, a_freshInt, a_stateMask, a_stateOpen, a_statePos, a_stateNext, a_child, a_bucketHead, a_pin, a_marked, a_queue, a_val, a_valType, a_bound) mask o := by
  unfold wpX_reach
  dsimp only
  refine xw_prune hN hR hm (fun kept hk => ?_)
  refine xw_shrink hN (fun c hc => hm c (hk.1 c hc)) (fun nd h1 h2 => ?_)
  exact xw_intern hsc hch (fun s sc' MK' OP' PS' NX' BH' a b => h kept nd s sc' MK' OP' PS' NX' BH' ⟨hk.1, hk.2.1, hk.2.2, h1, h2⟩ a b)
end
def xg_SI (N : Nat) (tst : Nat → Nat → Bool) (hd : Nat → Nat → Int32) (rw : Nat → Nat) (sol : Nat → Bool) (rt : Int32) (fty : Int32 → Int32 → Nat → Int32) (cn : Nat → Int32 → Nat) (cd : Nat → Int32 → Nat → Int32) (m : Int64) (o : Int32) : Prop := (∀ c, bi_L m c = true → c < N) ∧ gh_A1 (bi_ot o) ∧ xc_ty o ∧ gh_PR tst rw sol (bi_L m) (bi_ot o) ∧ gh_Cl N tst hd rw sol rt fty cn cd (fun _ => True) (bi_L m) (bi_ot o)
def xg_Kid (N : Nat) (tst : Nat → Nat → Bool) (hd : Nat → Nat → Int32) (rw : Nat → Nat) (sol : Nat → Bool) (rt : Int32) (fty : Int32 → Int32 → Nat → Int32) (cn : Nat → Int32 → Nat) (cd : Nat → Int32 → Nat → Int32) (sc : Nat) (MK : Nat → Int64) (OP : Nat → Int32) (CH : Nat → Int32) (s p i : Nat) : Prop := ∃ c, c < sc ∧ CH (s * 5 + i) = nI c ∧ ∃ m1 o1, gh_Spec tst hd fty (bi_L (MK s)) (bi_ot (OP s)) p (bi_ot (OP s) p) (cd p (bi_ot (OP s) p) i) m1 o1 ∧ gh_Red tst rw sol m1 o1 (bi_L (MK c)) (bi_ot (OP c))
def xg_Ex (N : Nat) (tst : Nat → Nat → Bool) (hd : Nat → Nat → Int32) (rw : Nat → Nat) (sol : Nat → Bool) (rt : Int32) (fty : Int32 → Int32 → Nat → Int32) (cn : Nat → Int32 → Nat) (cd : Nat → Int32 → Nat → Int32) (sc : Nat) (MK : Nat → Int64) (OP PS CH : Nat → Int32) (s : Nat) : Prop :=
  (PS s = 0 ∧ ∀ c, bi_L (MK s) c = true → gh_no tst (bi_ot (OP s)) c) ∨
  (∃ p, 1 ≤ p ∧ p ≤ 7 ∧ PS s = nI p ∧ bi_ot (OP s) p ≠ -1 ∧ ∀ i, i < cn p (bi_ot (OP s) p) → xg_Kid N tst hd rw sol rt fty cn cd sc MK OP CH s p i)
def xg_S (f : Nat → Nat) (a : Nat) : Nat → Nat
  | 0 => 0
  | n + 1 => xg_S f a n + f (a + n)
theorem xg_S1 (f : Nat → Nat) (a : Nat) : ∀ n, xg_S f a (n + 1) = f a + xg_S f (a + 1) n := by
  intro n
  induction n with
  | zero => simp [xg_S]
  | succ n ih =>
    rw [xg_S, ih, xg_S]
    have : a + (n + 1) = a + 1 + n := by omega
    rw [this]; omega
theorem xg_Sc {f g : Nat → Nat} {a : Nat} : ∀ n, (∀ j, a ≤ j → j < a + n → f j = g j) → xg_S f a n = xg_S g a n := by
  intro n
  induction n with
  | zero => intro _; rfl
  | succ n ih =>
    intro h
    rw [xg_S, xg_S, ih (fun j a b => h j a (by omega)), h (a + n) (by omega) (by omega)]
def xg_f (OP : Nat → Int32) (j : Nat) : Nat := 2 * gh_W (bi_ot (OP j)) - 2
theorem xg_kids {n sw w W0 : Nat} (hn : n ≤ sw) (h3 : 3 ≤ sw) (hw : w * sw ≤ W0) (hW : 1 ≤ W0) : n * (2 * w - 1) ≤ 2 * W0 - 2 := by
  cases w with
  | zero => simp
  | succ w =>
    have e : 2 * (w + 1) - 1 = 2 * w + 1 := by omega
    rw [e]
    have h1 : (w + 1) * n ≤ (w + 1) * sw := Nat.mul_le_mul_left _ hn
    have h2 : (w + 1) * 3 ≤ (w + 1) * sw := Nat.mul_le_mul_left _ h3
    have h4 : n * (2 * w + 1) + n = 2 * ((w + 1) * n) := by
      rw [Nat.mul_comm (w + 1) n, Nat.mul_add, Nat.mul_add, Nat.mul_left_comm n 2 w]; omega
    rcases Nat.lt_or_ge n 2 with z | z
    · have : n = 0 ∨ n = 1 := by omega
      rcases this with rfl | rfl
      · omega
      · omega
    · omega
theorem xg_Kid_up {N : Nat} {tst : Nat → Nat → Bool} {hd : Nat → Nat → Int32} {rw : Nat → Nat} {sol : Nat → Bool} {rt : Int32} {fty : Int32 → Int32 → Nat → Int32} {cn : Nat → Int32 → Nat} {cd : Nat → Int32 → Nat → Int32} {sc sc' s p i : Nat} {MK MK' : Nat → Int64} {OP OP' CH CH' : Nat → Int32} (hs : s < sc) (hsc : sc ≤ sc') (hM : ∀ j, j < sc → MK' j = MK j ∧ OP' j = OP j) (hC : CH' (s * 5 + i) = CH (s * 5 + i)) (h : xg_Kid N tst hd rw sol rt fty cn cd sc MK OP CH s p i) : xg_Kid N tst hd rw sol rt fty cn cd sc' MK' OP' CH' s p i := by
  obtain ⟨c, c1, c2, m1, o1, c3, c4⟩ := h
  refine ⟨c, by omega, by rw [hC]; exact c2, m1, o1, ?_, ?_⟩
  · rw [(hM s hs).1, (hM s hs).2]; exact c3
  · rw [(hM c c1).1, (hM c c1).2]; exact c4
theorem xg_Ex_up {N : Nat} {tst : Nat → Nat → Bool} {hd : Nat → Nat → Int32} {rw : Nat → Nat} {sol : Nat → Bool} {rt : Int32} {fty : Int32 → Int32 → Nat → Int32} {cn : Nat → Int32 → Nat} {cd : Nat → Int32 → Nat → Int32} {sc sc' s : Nat} {MK MK' : Nat → Int64} {OP OP' PS PS' CH CH' : Nat → Int32} (hs : s < sc) (hsc : sc ≤ sc') (hM : ∀ j, j < sc → MK' j = MK j ∧ OP' j = OP j) (hP : PS' s = PS s) (hcn : ∀ p t, 1 ≤ p → p ≤ 7 → cn p t ≤ 5) (hC : ∀ i, i < 5 → CH' (s * 5 + i) = CH (s * 5 + i)) (h : xg_Ex N tst hd rw sol rt fty cn cd sc MK OP PS CH s) : xg_Ex N tst hd rw sol rt fty cn cd sc' MK' OP' PS' CH' s := by
  rcases h with ⟨h1, h2⟩ | ⟨p, p1, p7, h1, h2, h3⟩
  · left
    refine ⟨hP.trans h1, ?_⟩
    rw [(hM s hs).1, (hM s hs).2]; exact h2
  · right
    refine ⟨p, p1, p7, hP.trans h1, ?_, ?_⟩
    · rw [(hM s hs).2]; exact h2
    · intro i hi
      rw [(hM s hs).2] at hi
      exact xg_Kid_up hs hsc hM (hC i (by have := hcn p (bi_ot (OP s) p) p1 p7; omega)) (h3 i hi)
end
section
def xg_Inv (N : Nat) (tst : Nat → Nat → Bool) (hd : Nat → Nat → Int32) (rw : Nat → Nat) (sol : Nat → Bool) (rt : Int32) (fty : Int32 → Int32 → Nat → Int32) (cn : Nat → Int32 → Nat) (cd : Nat → Int32 → Nat → Int32) (m00 : Int64) (o00 : Int32) (s p : Nat) (m0 : Int64) (o0 : Int32) (w i sc : Nat) (MK : Nat → Int64) (OP PS NX BH CH : Nat → Int32) : Prop :=
  (0 < sc ∧ MK 0 = m00 ∧ OP 0 = o00) ∧ s < sc ∧ MK s = m0 ∧ OP s = o0 ∧ PS s = nI p ∧ (∀ j, j < sc → xg_SI N tst hd rw sol rt fty cn cd (MK j) (OP j)) ∧ (∀ j, j < s → xg_Ex N tst hd rw sol rt fty cn cd sc MK OP PS CH j) ∧ (∀ i', i' < i → xg_Kid N tst hd rw sol rt fty cn cd sc MK OP CH s p i') ∧ xg_ch sc NX BH ∧
  sc + xg_S (xg_f OP) (s + 1) (sc - (s + 1)) + (2 * gh_W (bi_ot o0) - 2) ≤ 4373 + i * (2 * w - 1)
theorem xc_f_ty {cc : Nat} {C1 C2 : Nat → Int32} (hF : xc_F cc C1 C2) (hcc : cc ≤ 12) {t c : Int32} {q : Nat} (h : xc_f cc C1 C2 t c q ≠ -1) : ∃ k, k ≤ 4 ∧ xc_f cc C1 C2 t c q = nI k := by
  unfold xc_f at h ⊢
  by_cases z : t < 1 ∨ c < 0 ∨ nI cc ≤ c
  · rw [if_pos z] at h; exact absurd rfl h
  · rw [if_neg z] at h ⊢
    have z2 : ¬ c < 0 := fun w => z (Or.inr (Or.inl w))
    have z3 : ¬ nI cc ≤ c := fun w => z (Or.inr (Or.inr w))
    obtain ⟨j, j1, rfl⟩ := nI_of z2
    have hj : j < cc := by
      rcases Nat.lt_or_ge j cc with w | w
      · exact w
      · exact absurd (nI_le w j1) z3
    rw [nI_clamp j1] at h ⊢
    have key : ∀ x : Int32, (∃ a, a < 6 ∧ x + 1 = nI a) → x ≠ -1 → ∃ k, k ≤ 4 ∧ x = nI k := by
      rintro x ⟨a, a1, a2⟩ hx
      have e : x = nI a - 1 := by rw [← a2, Int32.add_sub_cancel]
      cases a with
      | zero => exact absurd (e.trans (by decide)) hx
      | succ a => exact ⟨a, by omega, e.trans (nI_pred a)⟩
    by_cases q0 : q % 2 = 0
    · rw [if_pos q0] at h ⊢; exact key _ (hF j hj).1 h
    · rw [if_neg q0] at h ⊢; exact key _ (hF j hj).2 h
theorem xc_few {LC TS : Nat → Int32} (hL : xc_L LC TS) : sh_few (xc_n LC TS) ∧ ∀ p t, 1 ≤ p → p ≤ 7 → xc_n LC TS p t ≤ 5 := by
  have key : ∀ p t, 1 ≤ p → p ≤ 7 → xc_n LC TS p t ≤ sh_w p t ∧ xc_n LC TS p t ≤ 5 := by
    intro p t p1 p7
    unfold xc_n sh_w gh_wt
    by_cases t0 : t = 0
    · rw [if_pos t0, if_pos t0]
      obtain ⟨m, m4, em⟩ := hL.1 p p1 p7
      rw [em, nI_clamp (by split at m4 <;> omega)]
      by_cases e1 : p = 1
      · rw [if_pos e1]; split at m4 <;> omega
      · rw [if_neg e1]
        by_cases e3 : p ≤ 3
        · rw [if_pos e3] at m4 ⊢; omega
        · rw [if_neg e3] at m4 ⊢; omega
    · rw [if_neg t0, if_neg t0]
      by_cases z : 0 < t ∧ t ≤ 4
      · rw [if_pos z]
        obtain ⟨j, j1, rfl⟩ := nI_of (x := t) (Int32.not_lt.mpr (Int32.le_of_lt z.1))
        have j4 : j ≤ 4 := (nI_leI (a := j) (b := 4) j1 (by omega)).mp z.2
        have j0 : 1 ≤ j := by
          rcases Nat.eq_zero_or_pos j with w | w
          · subst w; exact absurd rfl t0
          · exact w
        obtain ⟨s, s3, es⟩ := hL.2 j j0 j4
        rw [nI_clamp j1, es, nI_clamp (by omega)]
        omega
      · rw [if_neg z]; omega
  exact ⟨fun p t a b => (key p t a b).1, fun p t a b => (key p t a b).2⟩
section
variable {tt rl rt cc rc nc hlc clc sc qt : Nat} {ph ro misF lr : Int32} {solM livM : Int64} {a_ctorType a_ctorFirst a_ctorSecond a_typeSize a_typeCtors a_rowFirst a_rowSize a_guardKind a_guardA a_guardB a_clauseFirst a_nodeKind a_nodeArg a_nodePos a_nodeRow a_altOf a_altSide a_nodeNew a_after a_holePos a_holeType a_holeOwner a_holeSide a_clauseRow a_clauseTests a_testHead a_clauseBind a_litCount a_lits a_freshInt a_stateOpen a_statePos a_stateNext a_child a_bucketHead a_pin a_marked a_queue a_val a_valType a_bound : Nat → Int32} {a_clauseNodes a_stateMask : Nat → Int64}
theorem xw_exp_l {post : SX → Prop} {s p k n w : Nat} {m0 m00 : Int64} {o0 o00 : Int32} {okT : Nat → Int32 → Int32 → Prop} (hN : clc < 64) (hR : xc_ok a_clauseRow clc) (hL : xc_L a_litCount a_typeSize) (hcc : cc ≤ 12) (hF : xc_F cc a_ctorFirst a_ctorSecond) (h5 : gh_C5 clc (xc_t a_clauseTests) (xc_h a_testHead) (nI rt) (xc_f cc a_ctorFirst a_ctorSecond) okT) (hok : ∀ p t x, okT p t x → t ≠ -1) (hcn : ∀ q t c, 2 ≤ q → q ≤ 7 → (xc_f cc a_ctorFirst a_ctorSecond) t c q ≠ -1 → 0 < (xc_n a_litCount a_typeSize) q ((xc_f cc a_ctorFirst a_ctorSecond) t c q)) (hs : s < 4374) (p1 : 1 ≤ p) (p7 : p ≤ 7) (hk : k ≤ 4) (hS0 : xg_SI clc (xc_t a_clauseTests) (xc_h a_testHead) (xc_r a_clauseRow) (xc_s a_clauseRow a_guardKind) (nI rt) (xc_f cc a_ctorFirst a_ctorSecond) (xc_n a_litCount a_typeSize) (xc_d a_litCount a_lits a_freshInt a_typeCtors) m0 o0) (hop : bi_ot o0 p = nI k) (hn : n = (xc_n a_litCount a_typeSize) p (nI k)) (hw : ∀ o1 hh, gh_St (xc_f cc a_ctorFirst a_ctorSecond) (bi_ot o0) p (nI k) hh o1 → gh_W o1 ≤ w) (hW : n * (2 * w - 1) ≤ 2 * gh_W (bi_ot o0) - 2)
    (h : ∀ sc MK OP PS NX BH CH, xg_Inv clc (xc_t a_clauseTests) (xc_h a_testHead) (xc_r a_clauseRow) (xc_s a_clauseRow a_guardKind) (nI rt) (xc_f cc a_ctorFirst a_ctorSecond) (xc_n a_litCount a_typeSize) (xc_d a_litCount a_lits a_freshInt a_typeCtors) m00 o00 s p m0 o0 w n sc MK OP PS NX BH CH → post (nI tt, nI rl, nI rt, ph, nI cc, nI rc, ro, nI nc, nI hlc, nI clc, nI sc, solM, livM, misF, nI qt, lr, a_ctorType, a_ctorFirst, a_ctorSecond, a_typeSize, a_typeCtors, a_rowFirst, a_rowSize, a_guardKind, a_guardA, a_guardB, a_clauseFirst, a_nodeKind, a_nodeArg, a_nodePos, a_nodeRow, a_altOf, a_altSide, a_nodeNew, a_after, a_holePos, a_holeType, a_holeOwner, a_holeSide, a_clauseRow, a_clauseNodes, a_clauseTests, a_testHead, a_clauseBind, a_litCount, a_lits, a_freshInt, MK, OP, PS, NX, CH, BH, a_pin, a_marked, a_queue, a_val, a_valType, a_bound)) :
    ∀ d i sc MK OP PS NX BH CH, i + d = n → xg_Inv clc (xc_t a_clauseTests) (xc_h a_testHead) (xc_r a_clauseRow) (xc_s a_clauseRow a_guardKind) (nI rt) (xc_f cc a_ctorFirst a_ctorSecond) (xc_n a_litCount a_typeSize) (xc_d a_litCount a_lits a_freshInt a_typeCtors) m00 o00 s p m0 o0 w i sc MK OP PS NX BH CH → wX_expandState_52 post (nI s) (nI p) (nI k) (nI n) (d + 1) (nI i) (nI tt) (nI rl) (nI rt) ph (nI cc) (nI rc) ro (nI nc) (nI hlc) (nI clc) (nI sc) solM livM misF (nI qt) lr a_ctorType a_ctorFirst a_ctorSecond a_typeSize a_typeCtors a_rowFirst a_rowSize a_guardKind a_guardA a_guardB a_clauseFirst a_nodeKind a_nodeArg a_nodePos a_nodeRow a_altOf a_altSide a_nodeNew a_after a_holePos a_holeType a_holeOwner a_holeSide a_clauseRow a_clauseNodes a_clauseTests a_testHead a_clauseBind a_litCount a_lits a_freshInt MK OP PS NX CH BH a_pin a_marked a_queue a_val a_valType a_bound := by
  have hn5 : n ≤ 5 := by rw [hn]; exact (xc_few hL).2 p _ p1 p7
  have htne : nI k ≠ -1 := by
    intro z
    have := congrArg Int32.toInt z
    rw [nI_toInt (by omega), show (-1 : Int32).toInt = -1 from by decide] at this
    omega
  intro d
  induction d with
  | zero =>
    intro i sc MK OP PS NX BH CH h1 h2
    have : i = n := by omega
    subst this
    exact br_t (nI_le (by omega) (by omega)) (h _ _ _ _ _ _ _ h2)
  | succ d ih =>
    intro i sc MK OP PS NX BH CH h1 h2
    obtain ⟨⟨i01, i02, i03⟩, i1, i2, i3, i4, i5, i6, i7, i8, i9⟩ := h2
    have es : (nI s).toNatClampNeg = s := nI_clamp (by omega)
    have ws : vp_in (nI s) 4374 := vp_in_nI hs (by omega)
    have e5 : nI s * 5 + nI i = nI (s * 5 + i) := by rw [show (5 : Int32) = nI 5 from rfl, pk_mul, nI_add]
    have hsc : sc < 4374 := by
      have : i * (2 * w - 1) ≤ n * (2 * w - 1) := Nat.mul_le_mul_right _ (by omega)
      omega
    obtain ⟨hm0, hA0, hty0, hPR0, hCl0⟩ := hS0
    refine br_f (nI_ge (by omega) (by omega)) (br_f (nI_ge (a := i) (b := 5) (by omega) (by omega)) (xw_candHead hL p1 p7 hk (by omega) ⟨ws, ?_⟩))
    rw [es, i2, i3]
    refine xw_spec p1 p7 hN hm0 (fun m1 hm1 => ⟨ws, ?_⟩)
    refine xw_openAfter hcc hF p1 p7 hk (fun q q1 q7 => ?_) (fun o1 ho1 => ?_)
    · apply Classical.byContradiction
      intro z
      have := hA0 q p p1 (by omega) q7 (by unfold tr_dsc; omega) z
      rw [hop] at this
      exact htne this
    refine xw_reach hN hR (fun c hc => hm0 c ((hm1 c).mp hc).1) hsc i8 (fun kept nd c sc' MK' OP' PS' NX' BH' hred hxi hch => ?_)
    obtain ⟨x1, x2, x3, x4, x5⟩ := hxi
    have hst : gh_St (xc_f cc a_ctorFirst a_ctorSecond) (bi_ot o0) p (nI k) ((xc_d a_litCount a_lits a_freshInt a_typeCtors) p (nI k) i) (bi_ot o1) := ho1
    have hsp : gh_Spec (xc_t a_clauseTests) (xc_h a_testHead) (xc_f cc a_ctorFirst a_ctorSecond) (bi_L m0) (bi_ot o0) p (nI k) ((xc_d a_litCount a_lits a_freshInt a_typeCtors) p (nI k) i) (bi_L m1) (bi_ot o1) := ⟨hm1, ho1⟩
    have hopn : bi_ot o0 p ≠ -1 := by rw [hop]; exact htne
    have hA1 := gh_spec_A1 hA0 p1 hopn hsp
    have hSI : xg_SI clc (xc_t a_clauseTests) (xc_h a_testHead) (xc_r a_clauseRow) (xc_s a_clauseRow a_guardKind) (nI rt) (xc_f cc a_ctorFirst a_ctorSecond) (xc_n a_litCount a_typeSize) (xc_d a_litCount a_lits a_freshInt a_typeCtors) kept nd := by
      refine ⟨fun c hc => hm0 c ((hm1 c).mp (hred.1 c hc)).1, gh_red_A1 hA1 hred, fun q q1 q7 hq => ?_, gh_red_PR hred, gh_cl_red h5 (fun c hc => hm0 c ((hm1 c).mp hc).1) (gh_cl_spec h5 hok hcn hm0 hA0 p1 p7 hop htne (by omega) (fun v0 _ _ _ => Or.inr trivial) hsp hCl0) hred⟩
      by_cases z : ∃ c, bi_L kept c = true ∧ xc_t a_clauseTests c q = true
      · rw [hred.2.2.2.1 q q1 q7 z] at hq ⊢
        rw [ho1 q q1 q7] at hq ⊢
        by_cases e1 : q = p
        · rw [if_pos e1] at hq; exact absurd rfl hq
        · rw [if_neg e1] at hq ⊢
          by_cases e2 : q / 2 = p
          · rw [if_pos e2] at hq ⊢; exact xc_f_ty hF hcc hq
          · rw [if_neg e2] at hq ⊢; exact hty0 q q1 q7 hq
      · exact absurd (hred.2.2.2.2 q q1 q7 z) hq
    have hscle : sc ≤ sc' := by rcases x2 with x2 | x2 <;> omega
    have hM : ∀ j, j < sc → MK' j = MK j ∧ OP' j = OP j := fun j hj => ⟨(x5 j hj).1, (x5 j hj).2.1⟩
    have hw5 : vp_in (nI (s * 5 + i)) 21870 := vp_in_nI (by omega) (by omega)
    dsimp only
    rw [e5]
    refine ⟨hw5, nm_r (e' := upd CH (s * 5 + i) (nI c)) (by rw [nI_clamp (by omega)]) (nm_r (nI_1 i) (ih (i + 1) sc' MK' OP' PS' NX' BH' _ (by omega) ⟨⟨by omega, (hM 0 i01).1.trans i02, (hM 0 i01).2.trans i03⟩, by omega, (hM s i1).1.trans i2, (hM s i1).2.trans i3, (x5 s i1).2.2.trans i4, fun j hj => ?_, fun j hj => ?_, fun i' hi' => ?_, hch, ?_⟩))⟩
    · rcases x2 with x2 | ⟨x2, x6, x7⟩
      · rw [(hM j (by omega)).1, (hM j (by omega)).2]; exact i5 j (by omega)
      · by_cases q : j < sc
        · rw [(hM j q).1, (hM j q).2]; exact i5 j q
        · have : j = c := by omega
          subst this
          rw [x3, x4]; exact hSI
    · exact xg_Ex_up (by omega) hscle hM (x5 j (by omega)).2.2 (xc_few hL).2 (fun i' hi' => pk_un (by omega)) (i6 j hj)
    · by_cases q : i' = i
      · subst q
        refine ⟨c, x1, pk_us, bi_L m1, bi_ot o1, ?_, ?_⟩
        · rw [(hM s i1).1, (hM s i1).2, i2, i3, hop]; exact hsp
        · rw [x3, x4]; exact hred
      · exact xg_Kid_up i1 hscle hM (pk_un (by omega)) (i7 i' (by omega))
    · have hWnd : gh_W (bi_ot nd) ≤ w := by
        refine Nat.le_trans (gh_mono (fun q q1 q7 => ?_)).1 (hw _ _ hst)
        by_cases z : ∃ c, bi_L kept c = true ∧ xc_t a_clauseTests c q = true
        · exact Or.inl (hred.2.2.2.1 q q1 q7 z)
        · exact Or.inr (hred.2.2.2.2 q q1 q7 z)
      have hWp := gh_Wpos (bi_ot nd)
      have hcg : xg_S (xg_f OP') (s + 1) (sc - (s + 1)) = xg_S (xg_f OP) (s + 1) (sc - (s + 1)) := xg_Sc _ (fun j a b => by unfold xg_f; rw [(hM j (by omega)).2])
      have hmul : (i + 1) * (2 * w - 1) = i * (2 * w - 1) + (2 * w - 1) := by rw [Nat.add_mul, Nat.one_mul]
      rw [hmul]
      rcases x2 with x2 | ⟨x2, x6, x7⟩
      · rw [x2, hcg]; omega
      · have e1 : sc' - (s + 1) = (sc - (s + 1)) + 1 := by omega
        rw [e1, xg_S, hcg, show s + 1 + (sc - (s + 1)) = sc by omega]
        have e2 : xg_f OP' sc = 2 * gh_W (bi_ot nd) - 2 := by unfold xg_f; rw [← x6, x4]
        rw [e2]
        omega
def xg_Bld (N : Nat) (tst : Nat → Nat → Bool) (hd : Nat → Nat → Int32) (rw : Nat → Nat) (sol : Nat → Bool) (rt : Int32) (fty : Int32 → Int32 → Nat → Int32) (cn : Nat → Int32 → Nat) (cd : Nat → Int32 → Nat → Int32) (m00 : Int64) (o00 : Int32) (s sc : Nat) (MK : Nat → Int64) (OP PS NX BH CH : Nat → Int32) : Prop :=
  (0 < sc ∧ MK 0 = m00 ∧ OP 0 = o00) ∧ s ≤ sc ∧ (∀ j, j < sc → xg_SI N tst hd rw sol rt fty cn cd (MK j) (OP j)) ∧ (∀ j, j < s → xg_Ex N tst hd rw sol rt fty cn cd sc MK OP PS CH j) ∧ xg_ch sc NX BH ∧ sc + xg_S (xg_f OP) s (sc - s) ≤ 4373
theorem xw_expand {post : SX → Prop} {s : Nat} {m00 : Int64} {o00 : Int32} {okT : Nat → Int32 → Int32 → Prop} (hN : clc < 64) (hR : xc_ok a_clauseRow clc) (hL : xc_L a_litCount a_typeSize) (hcc : cc ≤ 12) (hF : xc_F cc a_ctorFirst a_ctorSecond) (h5 : gh_C5 clc (xc_t a_clauseTests) (xc_h a_testHead) (nI rt) (xc_f cc a_ctorFirst a_ctorSecond) okT) (hok : ∀ p t x, okT p t x → t ≠ -1) (hcn : ∀ q t c, 2 ≤ q → q ≤ 7 → (xc_f cc a_ctorFirst a_ctorSecond) t c q ≠ -1 → 0 < (xc_n a_litCount a_typeSize) q ((xc_f cc a_ctorFirst a_ctorSecond) t c q)) (hs : s < sc) (hB : xg_Bld clc (xc_t a_clauseTests) (xc_h a_testHead) (xc_r a_clauseRow) (xc_s a_clauseRow a_guardKind) (nI rt) (xc_f cc a_ctorFirst a_ctorSecond) (xc_n a_litCount a_typeSize) (xc_d a_litCount a_lits a_freshInt a_typeCtors) m00 o00 s sc a_stateMask a_stateOpen a_statePos a_stateNext a_bucketHead a_child)
    (h : ∀ sc' MK OP PS NX BH CH, xg_Bld clc (xc_t a_clauseTests) (xc_h a_testHead) (xc_r a_clauseRow) (xc_s a_clauseRow a_guardKind) (nI rt) (xc_f cc a_ctorFirst a_ctorSecond) (xc_n a_litCount a_typeSize) (xc_d a_litCount a_lits a_freshInt a_typeCtors) m00 o00 (s + 1) sc' MK OP PS NX BH CH → post (nI tt, nI rl, nI rt, ph, nI cc, nI rc, ro, nI nc, nI hlc, nI clc, nI sc', solM, livM, misF, nI qt, lr, a_ctorType, a_ctorFirst, a_ctorSecond, a_typeSize, a_typeCtors, a_rowFirst, a_rowSize, a_guardKind, a_guardA, a_guardB, a_clauseFirst, a_nodeKind, a_nodeArg, a_nodePos, a_nodeRow, a_altOf, a_altSide, a_nodeNew, a_after, a_holePos, a_holeType, a_holeOwner, a_holeSide, a_clauseRow, a_clauseNodes, a_clauseTests, a_testHead, a_clauseBind, a_litCount, a_lits, a_freshInt, MK, OP, PS, NX, CH, BH, a_pin, a_marked, a_queue, a_val, a_valType, a_bound)) : wpX_expandState post (nI tt, nI rl, nI rt, ph, nI cc, nI rc, ro, nI nc, nI hlc, nI clc, nI sc, solM, livM, misF, nI qt, lr, a_ctorType, a_ctorFirst, a_ctorSecond, a_typeSize, a_typeCtors, a_rowFirst, a_rowSize, a_guardKind, a_guardA, a_guardB, a_clauseFirst, a_nodeKind, a_nodeArg, a_nodePos, a_nodeRow, a_altOf, a_altSide, a_nodeNew, a_after, a_holePos, a_holeType, a_holeOwner, a_holeSide, a_clauseRow, a_clauseNodes, a_clauseTests, a_testHead, a_clauseBind, a_litCount, a_lits, a_freshInt, a_stateMask, a_stateOpen, a_statePos, a_stateNext, a_child, a_bucketHead, a_pin, a_marked, a_queue, a_val, a_valType, a_bound) (nI s) := by
  obtain ⟨b0, b1, b2, b3, b4, b5⟩ := hB
  have hs4 : s < 4374 := by omega
  have es : (nI s).toNatClampNeg = s := nI_clamp (by omega)
  have ws : vp_in (nI s) 4374 := vp_in_nI hs4 (by omega)
  obtain ⟨hm0, hA0, hty0, hPR0, hCl0⟩ := b2 s hs
  have hsum : xg_S (xg_f a_stateOpen) s (sc - s) = xg_f a_stateOpen s + xg_S (xg_f a_stateOpen) (s + 1) (sc - (s + 1)) := by
    rw [show sc - s = (sc - (s + 1)) + 1 by omega, xg_S1]
  rw [hsum] at b5
  unfold wpX_expandState
  dsimp only
  rw [es]
  refine ⟨ws, ws, xw_choose hN hL hty0 hm0 (fun hz => ⟨ws, nm_e (br_t rfl (h sc _ _ _ _ _ _ ⟨b0, by omega, b2, fun j hj => ?_, b4, by omega⟩))⟩) (fun p p1 p7 hop => ⟨ws, nm_e (br_f (nI_ne0 (by omega) (by omega)) ⟨ws, ?_⟩)⟩)⟩
  · by_cases q : j = s
    · subst q; exact Or.inl ⟨pk_us, hz⟩
    · exact xg_Ex_up (by omega) (Nat.le_refl _) (fun j hj => ⟨rfl, rfl⟩) (pk_un q) (xc_few hL).2 (fun _ _ => rfl) (b3 j (by omega))
  · obtain ⟨k, k4, ek⟩ := hty0 p p1 p7 hop
    unfold wpX_openType
    dsimp only
    rw [show ((a_stateOpen s >>> ((3 * nI p) &&& 31)) &&& 7) - 1 = nI k from ek]
    have htne : nI k ≠ -1 := ek ▸ hop
    refine xw_candCount hL p1 p7 k4 ⟨xc_n a_litCount a_typeSize p (nI k) + 1, ?_⟩
    have hwd : ∀ o1 hh, gh_St (xc_f cc a_ctorFirst a_ctorSecond) (bi_ot (a_stateOpen s)) p (nI k) hh o1 → gh_W o1 ≤ gh_W (bi_ot (a_stateOpen s)) / sh_w p (nI k) := by
      intro o1 hh hst
      rw [Nat.le_div_iff_mul_le (sh_wpos _ _), Nat.mul_comm]
      unfold sh_w
      by_cases e : nI k = 0
      · rw [if_pos e]
        exact gh_W_int p1 p7 hop hst (fun q _ _ => by unfold xc_f; rw [if_pos (Or.inl (by rw [e]; decide))])
      · rw [if_neg e]
        exact gh_W_step p1 p7 hop hst
    have h3w : 3 ≤ sh_w p (nI k) := by unfold sh_w gh_wt; split <;> (try split) <;> (try split) <;> omega
    have hkid : xc_n a_litCount a_typeSize p (nI k) * (2 * (gh_W (bi_ot (a_stateOpen s)) / sh_w p (nI k)) - 1) ≤ 2 * gh_W (bi_ot (a_stateOpen s)) - 2 :=
      xg_kids ((xc_few hL).1 p _ p1 p7) h3w (Nat.div_mul_le_self _ _) (gh_Wpos _)
    refine xw_exp_l (okT := okT) (m00 := m00) (o00 := o00) (w := gh_W (bi_ot (a_stateOpen s)) / sh_w p (nI k)) hN hR hL hcc hF h5 hok hcn hs4 p1 p7 k4 (b2 s hs) ek rfl hwd hkid (fun sc' MK OP PS NX BH CH hI => ?_) _ 0 sc a_stateMask a_stateOpen _ a_stateNext a_bucketHead a_child (by omega) ⟨b0, hs, rfl, rfl, pk_us, b2, fun j hj => ?_, fun i' hi' => by omega, b4, ?_⟩
    · obtain ⟨i0, i1, i2, i3, i4, i5, i6, i7, i8, i9⟩ := hI
      refine h _ _ _ _ _ _ _ ⟨i0, by omega, i5, fun j hj => ?_, i8, by omega⟩
      by_cases q : j = s
      · subst q
        refine Or.inr ⟨p, p1, p7, i4, ?_, ?_⟩
        · rw [i3]; exact hop
        · intro i hi
          rw [i3, ek] at hi
          exact i7 i hi
      · exact i6 j (by omega)
    · exact xg_Ex_up (by omega) (Nat.le_refl _) (fun j hj => ⟨rfl, rfl⟩) (pk_un (by omega)) (xc_few hL).2 (fun _ _ => rfl) (b3 j hj)
    · have e1 : xg_f a_stateOpen s = 2 * gh_W (bi_ot (a_stateOpen s)) - 2 := rfl
      omega
def xg_Fin (N : Nat) (tst : Nat → Nat → Bool) (hd : Nat → Nat → Int32) (rw : Nat → Nat) (sol : Nat → Bool) (rt : Int32) (fty : Int32 → Int32 → Nat → Int32) (cn : Nat → Int32 → Nat) (cd : Nat → Int32 → Nat → Int32) (sc : Nat) (MK : Nat → Int64) (OP PS CH : Nat → Int32) : Prop :=
  0 < sc ∧ sc ≤ 4373 ∧ (∀ j, j < sc → xg_SI N tst hd rw sol rt fty cn cd (MK j) (OP j)) ∧ (∀ j, j < sc → xg_Ex N tst hd rw sol rt fty cn cd sc MK OP PS CH j) ∧ gh_Red tst rw sol (fun c => decide (c < N)) (fun q => if q = 1 then rt else -1) (bi_L (MK 0)) (bi_ot (OP 0))
theorem xw_bg67 {post : SX → Prop} {m00 : Int64} {o00 : Int32} {okT : Nat → Int32 → Int32 → Prop} (hN : clc < 64) (hR : xc_ok a_clauseRow clc) (hL : xc_L a_litCount a_typeSize) (hcc : cc ≤ 12) (hF : xc_F cc a_ctorFirst a_ctorSecond) (h5 : gh_C5 clc (xc_t a_clauseTests) (xc_h a_testHead) (nI rt) (xc_f cc a_ctorFirst a_ctorSecond) okT) (hok : ∀ p t x, okT p t x → t ≠ -1) (hcn : ∀ q t c, 2 ≤ q → q ≤ 7 → (xc_f cc a_ctorFirst a_ctorSecond) t c q ≠ -1 → 0 < (xc_n a_litCount a_typeSize) q ((xc_f cc a_ctorFirst a_ctorSecond) t c q))
    (h : ∀ sc MK OP PS NX BH CH, xg_Bld clc (xc_t a_clauseTests) (xc_h a_testHead) (xc_r a_clauseRow) (xc_s a_clauseRow a_guardKind) (nI rt) (xc_f cc a_ctorFirst a_ctorSecond) (xc_n a_litCount a_typeSize) (xc_d a_litCount a_lits a_freshInt a_typeCtors) m00 o00 sc sc MK OP PS NX BH CH → post (nI tt, nI rl, nI rt, ph, nI cc, nI rc, ro, nI nc, nI hlc, nI clc, nI sc, solM, livM, misF, nI qt, lr, a_ctorType, a_ctorFirst, a_ctorSecond, a_typeSize, a_typeCtors, a_rowFirst, a_rowSize, a_guardKind, a_guardA, a_guardB, a_clauseFirst, a_nodeKind, a_nodeArg, a_nodePos, a_nodeRow, a_altOf, a_altSide, a_nodeNew, a_after, a_holePos, a_holeType, a_holeOwner, a_holeSide, a_clauseRow, a_clauseNodes, a_clauseTests, a_testHead, a_clauseBind, a_litCount, a_lits, a_freshInt, MK, OP, PS, NX, CH, BH, a_pin, a_marked, a_queue, a_val, a_valType, a_bound)) :
    ∀ d s sc MK OP PS NX BH CH, d + s = 4374 → xg_Bld clc (xc_t a_clauseTests) (xc_h a_testHead) (xc_r a_clauseRow) (xc_s a_clauseRow a_guardKind) (nI rt) (xc_f cc a_ctorFirst a_ctorSecond) (xc_n a_litCount a_typeSize) (xc_d a_litCount a_lits a_freshInt a_typeCtors) m00 o00 s sc MK OP PS NX BH CH → wX_buildGraph_67 post (d + 1) (nI s) (nI tt) (nI rl) (nI rt) ph (nI cc) (nI rc) ro (nI nc) (nI hlc) (nI clc) (nI sc) solM livM misF (nI qt) lr a_ctorType a_ctorFirst a_ctorSecond a_typeSize a_typeCtors a_rowFirst a_rowSize a_guardKind a_guardA a_guardB a_clauseFirst a_nodeKind a_nodeArg a_nodePos a_nodeRow a_altOf a_altSide a_nodeNew a_after a_holePos a_holeType a_holeOwner a_holeSide a_clauseRow a_clauseNodes a_clauseTests a_testHead a_clauseBind a_litCount a_lits a_freshInt MK OP PS NX CH BH a_pin a_marked a_queue a_val a_valType a_bound := by
  intro d
  induction d with
  | zero =>
    intro s sc MK OP PS NX BH CH h1 h2
    have := h2.2.1
    have := h2.2.2.2.2.2
    omega
  | succ d ih =>
    intro s sc MK OP PS NX BH CH h1 h2
    have q1 := h2.2.1
    have q2 := h2.2.2.2.2.2
    by_cases e : s = sc
    · subst e
      exact br_t (nI_le (by omega) (by omega)) (h _ _ _ _ _ _ _ h2)
    · refine br_f (nI_ge (by omega) (by omega)) (br_f (nI_ge (a := s) (b := 4374) (by omega) (by omega)) (xw_expand (okT := okT) hN hR hL hcc hF h5 hok hcn (by omega) h2 (fun sc' MK' OP' PS' NX' BH' CH' h3 => nm_r (nI_1 s) (ih (s + 1) sc' MK' OP' PS' NX' BH' CH' (by omega) h3))))
theorem xw_bg50 {post : SX → Prop} {all : Int64} {okT : Nat → Int32 → Int32 → Prop} (hN : clc < 64) (hR : xc_ok a_clauseRow clc) (hL : xc_L a_litCount a_typeSize) (hcc : cc ≤ 12) (hF : xc_F cc a_ctorFirst a_ctorSecond) (h5 : gh_C5 clc (xc_t a_clauseTests) (xc_h a_testHead) (nI rt) (xc_f cc a_ctorFirst a_ctorSecond) okT) (hok : ∀ p t x, okT p t x → t ≠ -1) (hcn : ∀ q t c, 2 ≤ q → q ≤ 7 → (xc_f cc a_ctorFirst a_ctorSecond) t c q ≠ -1 → 0 < (xc_n a_litCount a_typeSize) q ((xc_f cc a_ctorFirst a_ctorSecond) t c q)) (hrt : rt ≤ 4) (hsc : sc = 0) (hBH : ∀ b, b < 1024 → a_bucketHead b = -1) (hall : ∀ c, bi_L all c = decide (c < clc)) (hSh : ∃ v0, gh_Sh (nI rt) (xc_f cc a_ctorFirst a_ctorSecond) (xc_n a_litCount a_typeSize) (xc_d a_litCount a_lits a_freshInt a_typeCtors) v0)
    (h : ∀ sc MK OP PS NX BH CH, xg_Fin clc (xc_t a_clauseTests) (xc_h a_testHead) (xc_r a_clauseRow) (xc_s a_clauseRow a_guardKind) (nI rt) (xc_f cc a_ctorFirst a_ctorSecond) (xc_n a_litCount a_typeSize) (xc_d a_litCount a_lits a_freshInt a_typeCtors) sc MK OP PS CH → post (nI tt, nI rl, nI rt, ph, nI cc, nI rc, ro, nI nc, nI hlc, nI clc, nI sc, solM, livM, misF, nI qt, lr, a_ctorType, a_ctorFirst, a_ctorSecond, a_typeSize, a_typeCtors, a_rowFirst, a_rowSize, a_guardKind, a_guardA, a_guardB, a_clauseFirst, a_nodeKind, a_nodeArg, a_nodePos, a_nodeRow, a_altOf, a_altSide, a_nodeNew, a_after, a_holePos, a_holeType, a_holeOwner, a_holeSide, a_clauseRow, a_clauseNodes, a_clauseTests, a_testHead, a_clauseBind, a_litCount, a_lits, a_freshInt, MK, OP, PS, NX, CH, BH, a_pin, a_marked, a_queue, a_val, a_valType, a_bound)) : wX_buildGraph_50 post all (nI tt) (nI rl) (nI rt) ph (nI cc) (nI rc) ro (nI nc) (nI hlc) (nI clc) (nI sc) solM livM misF (nI qt) lr a_ctorType a_ctorFirst a_ctorSecond a_typeSize a_typeCtors a_rowFirst a_rowSize a_guardKind a_guardA a_guardB a_clauseFirst a_nodeKind a_nodeArg a_nodePos a_nodeRow a_altOf a_altSide a_nodeNew a_after a_holePos a_holeType a_holeOwner a_holeSide a_clauseRow a_clauseNodes a_clauseTests a_testHead a_clauseBind a_litCount a_lits a_freshInt a_stateMask a_stateOpen a_statePos a_stateNext a_child a_bucketHead a_pin a_marked a_queue a_val a_valType a_bound := by
  unfold wX_buildGraph_50
  have htne : nI rt ≠ -1 := by
    intro z
    have := congrArg Int32.toInt z
    rw [nI_toInt (by omega), show (-1 : Int32).toInt = -1 from by decide] at this
    omega
  have ho : ∀ q, 1 ≤ q → q ≤ 7 → bi_ot ((nI rt + 1) <<< ((3 : Int32) &&& 31)) q = if q = 1 then nI rt else -1 := by
    intro q q1 q7
    have := bi_ins 0 (nI rt) (k := 1) (j := rt + 1) (q := q) (s := 3) rfl (by omega) q7 (by omega) (nI_1 rt) (bi_otz (by omega))
    rw [show (0 : Int32) ||| ((nI rt + 1) <<< ((3 : Int32) &&& 31)) = (nI rt + 1) <<< ((3 : Int32) &&& 31) from Int32.zero_or ..] at this
    rw [this, bi_otz q7]
  refine xw_reach hN hR (fun c hc => by rw [hall c] at hc; exact of_decide_eq_true hc) (by omega) ⟨fun b hb => Or.inl (hBH b hb), fun s hs => by omega⟩ (fun kept nd s sc' MK' OP' PS' NX' BH' hred hxi hch => ?_)
  obtain ⟨x1, x2, x3, x4, x5⟩ := hxi
  have hs : s = 0 ∧ sc' = 1 := by rcases x2 with x2 | ⟨x2, x6, _⟩ <;> omega
  obtain ⟨rfl, rfl⟩ := hs
  have hred' : gh_Red (xc_t a_clauseTests) (xc_r a_clauseRow) (xc_s a_clauseRow a_guardKind) (fun c => decide (c < clc)) (fun q => if q = 1 then nI rt else -1) (bi_L kept) (bi_ot nd) := by
    obtain ⟨r1, r2, r3, r4, r5⟩ := hred
    have hno : ∀ c, gh_no (xc_t a_clauseTests) (bi_ot ((nI rt + 1) <<< ((3 : Int32) &&& 31))) c ↔ gh_no (xc_t a_clauseTests) (fun q => if q = 1 then nI rt else -1) c := by
      intro c
      constructor
      · intro z p p1 p7 ht; have := z p p1 p7 ht; rw [ho p p1 p7] at this; exact this
      · intro z p p1 p7 ht; rw [ho p p1 p7]; exact z p p1 p7 ht
    refine ⟨fun c hc => (hall c).symm.trans (r1 c hc), fun c hc hk => ?_, fun c0 c a b d e => r3 c0 c a b d ((hno c0).mpr e), fun p p1 p7 hx => ?_, r5⟩
    · obtain ⟨c0, a1, a2, a3, a4⟩ := r2 c (by rw [hall c]; exact hc) hk
      exact ⟨c0, a1, a2, (hno c0).mp a3, a4⟩
    · rw [r4 p p1 p7 hx, ho p p1 p7]
  have hA : gh_A1 (fun q => if q = 1 then nI rt else -1) := by
    intro p a a1 a2 p7 _ hp
    dsimp only at hp
    rw [if_neg (by omega)] at hp
    exact absurd rfl hp
  have hCl : gh_Cl clc (xc_t a_clauseTests) (xc_h a_testHead) (xc_r a_clauseRow) (xc_s a_clauseRow a_guardKind) (nI rt) (xc_f cc a_ctorFirst a_ctorSecond) (xc_n a_litCount a_typeSize) (xc_d a_litCount a_lits a_freshInt a_typeCtors) (fun _ => True) (fun c => decide (c < clc)) (fun q => if q = 1 then nI rt else -1) := by
    obtain ⟨v0, hv0⟩ := hSh
    refine ⟨v0, hv0, trivial, fun v _ => ⟨fun p p1 p7 hp => ?_, fun c hc => decide_eq_true hc.1, fun c hc p p1 p7 ht => Or.inr ⟨1, by omega, ?_, ?_⟩⟩⟩
    · dsimp only at hp ⊢
      by_cases e : p = 1
      · subst e; rfl
      · rw [if_neg e] at hp; exact absurd rfl hp
    · unfold tr_dsc; omega
    · dsimp only; rw [if_pos rfl]; exact htne
  have hSI : xg_SI clc (xc_t a_clauseTests) (xc_h a_testHead) (xc_r a_clauseRow) (xc_s a_clauseRow a_guardKind) (nI rt) (xc_f cc a_ctorFirst a_ctorSecond) (xc_n a_litCount a_typeSize) (xc_d a_litCount a_lits a_freshInt a_typeCtors) kept nd := by
    refine ⟨fun c hc => of_decide_eq_true (hred'.1 c hc), gh_red_A1 hA hred', fun q q1 q7 hq => ?_, gh_red_PR hred', gh_cl_red h5 (fun c hc => of_decide_eq_true hc) hCl hred'⟩
    by_cases z : ∃ c, bi_L kept c = true ∧ xc_t a_clauseTests c q = true
    · rw [hred'.2.2.2.1 q q1 q7 z] at hq ⊢
      dsimp only at hq ⊢
      by_cases e : q = 1
      · rw [if_pos e]; exact ⟨rt, hrt, rfl⟩
      · rw [if_neg e] at hq; exact absurd rfl hq
    · exact absurd (hred'.2.2.2.2 q q1 q7 z) hq
  have hWle : gh_W (bi_ot nd) ≤ 2187 := by
    refine Nat.le_trans (gh_mono (o := fun q => if q = 1 then nI rt else -1) (fun q q1 q7 => ?_)).1 ?_
    · by_cases z : ∃ c, bi_L kept c = true ∧ xc_t a_clauseTests c q = true
      · exact Or.inl (hred'.2.2.2.1 q q1 q7 z)
      · exact Or.inr (hred'.2.2.2.2 q q1 q7 z)
    · unfold gh_W
      simp only [if_true, show ¬ (2 = 1) by decide, show ¬ (3 = 1) by decide, show ¬ (4 = 1) by decide, show ¬ (5 = 1) by decide, show ¬ (6 = 1) by decide, show ¬ (7 = 1) by decide, if_false, gh_gc, gh_go htne]
      decide
  dsimp only
  refine ⟨4375, xw_bg67 (okT := okT) (m00 := kept) (o00 := nd) hN hR hL hcc hF h5 hok hcn (fun sc MK OP PS NX BH CH hB => h sc MK OP PS NX BH CH ?_) 4374 0 1 MK' OP' PS' NX' BH' a_child (by omega) ⟨⟨by omega, x3, x4⟩, by omega, fun j hj => ?_, fun j hj => by omega, hch, ?_⟩⟩
  · obtain ⟨⟨c1, c2, c3⟩, c4, c5, c6, c7, c8⟩ := hB
    exact ⟨c1, by omega, c5, c6, by rw [c2, c3]; exact hred'⟩
  · have : j = 0 := by omega
    subst this
    rw [x3, x4]; exact hSI
  · show 1 + xg_S (xg_f OP') 0 1 ≤ 4373
    have e1 : xg_S (xg_f OP') 0 1 = xg_f OP' 0 := by simp [xg_S]
    have e2 : xg_f OP' 0 = 2 * gh_W (bi_ot nd) - 2 := by unfold xg_f; rw [x4]
    omega
theorem xw_bg7 {post : SX → Prop} {okT : Nat → Int32 → Int32 → Prop} (hN : clc < 64) (hR : xc_ok a_clauseRow clc) (hL : xc_L a_litCount a_typeSize) (hcc : cc ≤ 12) (hF : xc_F cc a_ctorFirst a_ctorSecond) (h5 : gh_C5 clc (xc_t a_clauseTests) (xc_h a_testHead) (nI rt) (xc_f cc a_ctorFirst a_ctorSecond) okT) (hok : ∀ p t x, okT p t x → t ≠ -1) (hcn : ∀ q t c, 2 ≤ q → q ≤ 7 → (xc_f cc a_ctorFirst a_ctorSecond) t c q ≠ -1 → 0 < (xc_n a_litCount a_typeSize) q ((xc_f cc a_ctorFirst a_ctorSecond) t c q)) (hrt : rt ≤ 4) (hsc : sc = 0) (hSh : ∃ v0, gh_Sh (nI rt) (xc_f cc a_ctorFirst a_ctorSecond) (xc_n a_litCount a_typeSize) (xc_d a_litCount a_lits a_freshInt a_typeCtors) v0)
    (h : ∀ sc MK OP PS NX BH CH, xg_Fin clc (xc_t a_clauseTests) (xc_h a_testHead) (xc_r a_clauseRow) (xc_s a_clauseRow a_guardKind) (nI rt) (xc_f cc a_ctorFirst a_ctorSecond) (xc_n a_litCount a_typeSize) (xc_d a_litCount a_lits a_freshInt a_typeCtors) sc MK OP PS CH → post (nI tt, nI rl, nI rt, ph, nI cc, nI rc, ro, nI nc, nI hlc, nI clc, nI sc, solM, livM, misF, nI qt, lr, a_ctorType, a_ctorFirst, a_ctorSecond, a_typeSize, a_typeCtors, a_rowFirst, a_rowSize, a_guardKind, a_guardA, a_guardB, a_clauseFirst, a_nodeKind, a_nodeArg, a_nodePos, a_nodeRow, a_altOf, a_altSide, a_nodeNew, a_after, a_holePos, a_holeType, a_holeOwner, a_holeSide, a_clauseRow, a_clauseNodes, a_clauseTests, a_testHead, a_clauseBind, a_litCount, a_lits, a_freshInt, MK, OP, PS, NX, CH, BH, a_pin, a_marked, a_queue, a_val, a_valType, a_bound)) :
    ∀ d i BH, i + d = 1024 → (∀ b, b < i → BH b = -1) → wX_buildGraph_7 post (nI tt) (nI rl) (nI rt) ph (nI cc) (nI rc) ro (nI nc) (nI hlc) (nI clc) (nI sc) solM livM misF (nI qt) lr (d + 1) (nI i) a_ctorType a_ctorFirst a_ctorSecond a_typeSize a_typeCtors a_rowFirst a_rowSize a_guardKind a_guardA a_guardB a_clauseFirst a_nodeKind a_nodeArg a_nodePos a_nodeRow a_altOf a_altSide a_nodeNew a_after a_holePos a_holeType a_holeOwner a_holeSide a_clauseRow a_clauseNodes a_clauseTests a_testHead a_clauseBind a_litCount a_lits a_freshInt a_stateMask a_stateOpen a_statePos a_stateNext a_child BH a_pin a_marked a_queue a_val a_valType a_bound := by
  intro d
  induction d with
  | zero =>
    intro i BH h1 h2
    have : i = 1024 := by omega
    subst this
    refine br_t (nI_le (a := 1024) (b := 1024) (by omega) (by omega)) (br_t (nI_lt (a := clc) (b := 64) hN (by omega)) ?_)
    refine xw_bg50 (okT := okT) hN hR hL hcc hF h5 hok hcn hrt hsc h2 (fun c => ?_) hSh (fun sc MK OP PS NX BH CH => h sc MK OP PS NX BH CH)
    by_cases hc : c < 64
    · exact bi_all clc hN c hc
    · rw [bi_big (by omega)]
      exact (decide_eq_false (by omega)).symm
  | succ d ih =>
    intro i BH h1 h2
    refine br_f (nI_ge (a := i) (b := 1024) (by omega) (by omega)) ⟨vp_in_nI (by omega) (by omega), nm_r (e' := upd BH i (-1)) (by rw [nI_clamp (by omega)]) (nm_r (nI_1 i) (ih (i + 1) _ (by omega) (fun b hb => ?_)))⟩
    by_cases q : b = i
    · subst q; exact pk_us
    · rw [pk_un q]; exact h2 b (by omega)
theorem xw_build {post : SX → Prop} {okT : Nat → Int32 → Int32 → Prop} (hN : clc < 64) (hR : xc_ok a_clauseRow clc) (hL : xc_L a_litCount a_typeSize) (hcc : cc ≤ 12) (hF : xc_F cc a_ctorFirst a_ctorSecond) (h5 : gh_C5 clc (xc_t a_clauseTests) (xc_h a_testHead) (nI rt) (xc_f cc a_ctorFirst a_ctorSecond) okT) (hok : ∀ p t x, okT p t x → t ≠ -1) (hcn : ∀ q t c, 2 ≤ q → q ≤ 7 → (xc_f cc a_ctorFirst a_ctorSecond) t c q ≠ -1 → 0 < (xc_n a_litCount a_typeSize) q ((xc_f cc a_ctorFirst a_ctorSecond) t c q)) (hrt : rt ≤ 4) (hSh : ∃ v0, gh_Sh (nI rt) (xc_f cc a_ctorFirst a_ctorSecond) (xc_n a_litCount a_typeSize) (xc_d a_litCount a_lits a_freshInt a_typeCtors) v0)
    (h : ∀ sc MK OP PS NX BH CH, xg_Fin clc (xc_t a_clauseTests) (xc_h a_testHead) (xc_r a_clauseRow) (xc_s a_clauseRow a_guardKind) (nI rt) (xc_f cc a_ctorFirst a_ctorSecond) (xc_n a_litCount a_typeSize) (xc_d a_litCount a_lits a_freshInt a_typeCtors) sc MK OP PS CH → post (nI tt, nI rl, nI rt, ph, nI cc, nI rc, ro, nI nc, nI hlc, nI clc, nI sc, solM, livM, misF, nI qt, lr, a_ctorType, a_ctorFirst, a_ctorSecond, a_typeSize, a_typeCtors, a_rowFirst, a_rowSize, a_guardKind, a_guardA, a_guardB, a_clauseFirst, a_nodeKind, a_nodeArg, a_nodePos, a_nodeRow, a_altOf, a_altSide, a_nodeNew, a_after, a_holePos, a_holeType, a_holeOwner, a_holeSide, a_clauseRow, a_clauseNodes, a_clauseTests, a_testHead, a_clauseBind, a_litCount, a_lits, a_freshInt, MK, OP, PS, NX, CH, BH, a_pin, a_marked, a_queue, a_val, a_valType, a_bound)) : wpX_buildGraph post (nI tt, nI rl, nI rt, ph, nI cc, nI rc, ro, nI nc, nI hlc, nI clc, nI sc, solM, livM, misF, nI qt, lr, a_ctorType, a_ctorFirst, a_ctorSecond, a_typeSize, a_typeCtors, a_rowFirst, a_rowSize, a_guardKind, a_guardA, a_guardB, a_clauseFirst, a_nodeKind, a_nodeArg, a_nodePos, a_nodeRow, a_altOf, a_altSide, a_nodeNew, a_after, a_holePos, a_holeType, a_holeOwner, a_holeSide, a_clauseRow, a_clauseNodes, a_clauseTests, a_testHead, a_clauseBind, a_litCount, a_lits, a_freshInt, a_stateMask, a_stateOpen, a_statePos, a_stateNext, a_child, a_bucketHead, a_pin, a_marked, a_queue, a_val, a_valType, a_bound) :=
  ⟨1025, xw_bg7 (sc := 0) (okT := okT) hN hR hL hcc hF h5 hok hcn hrt rfl hSh h 1024 0 a_bucketHead (by omega) (fun b hb => by omega)⟩
end
end
section
/-! what the walks over a row's nodes need of the tree -/
section
variable {cc : Nat} {K A P U O S cT C1 C2 : Nat → Int32}
def tr_low (s : List tr_H) : Prop := ∀ h, h ∈ s → 1 ≤ h.1 ∧ h.1 ≤ 7
theorem tr_kidlow {u p : Nat} {t : Int32} (p1 : 1 ≤ p) (p7 : p ≤ 7) : tr_low (tr_kids K A C1 C2 u p t) := by
  intro g hg
  rcases tr_kidpos hg with ⟨e, _⟩ | ⟨_, e1, e2, _⟩ <;> omega
theorem tr_lowapp {s s' : List tr_H} (h : tr_low s) (h' : tr_low s') : tr_low (s ++ s') := by
  intro g hg
  rcases List.mem_append.mp hg with z | z
  · exact h g z
  · exact h' g z
theorem tr_sub2 : ∀ (d n : Nat) (s : List tr_H), tr_low s → tr_Op cc K A P U O S cT C1 C2 d n s [] → ∀ k, n ≤ k → k < n + d → ∃ dk hk, 1 ≤ hk.1 ∧ hk.1 ≤ 7 ∧ tr_Op cc K A P U O S cT C1 C2 dk k [hk] [] ∧ k + dk ≤ n + d := by
  intro d
  induction d with
  | zero => intro n s _ H k h1 h2; omega
  | succ d ih =>
    intro n s hl H k h1 h2
    obtain ⟨g, gs, e, h3, h4⟩ := H
    have hg := hl g (by rw [e]; exact List.mem_cons_self ..)
    by_cases q : k = n
    · subst q
      have : tr_Op cc K A P U O S cT C1 C2 (d + 1) k ([g] ++ gs) [] := ⟨g, gs, rfl, h3, h4⟩
      obtain ⟨d1, d2, e1, h5, h6⟩ := tr_split _ _ _ this
      exact ⟨d1, g, hg.1, hg.2, h5, by omega⟩
    · obtain ⟨dk, hk, a, b, c, e'⟩ := ih (n + 1) _ (tr_lowapp (tr_kidlow hg.1 hg.2) (fun x hx => hl x (by rw [e]; exact List.mem_cons_of_mem _ hx))) h4 k (by omega) (by omega)
      exact ⟨dk, hk, a, b, c, by omega⟩
theorem tr_kidmap {u p : Nat} {t t' : Int32} : (tr_kids K A C1 C2 u p t).map (fun h => h.1) = (tr_kids K A C1 C2 u p t').map (fun h => h.1) := by
  unfold tr_kids
  split
  · rfl
  · split
    · rfl
    · split
      · split
        · rfl
        · split <;> rfl
      · rfl
theorem tr_det : ∀ (d d' n : Nat) (s s' : List tr_H), tr_Op cc K A P U O S cT C1 C2 d n s [] → tr_Op cc K A P U O S cT C1 C2 d' n s' [] → s.map (fun h => h.1) = s'.map (fun h => h.1) → d = d' := by
  intro d
  induction d with
  | zero =>
    intro d' n s s' h1 h2 h3
    have e : s = [] := (show ([] : List tr_H) = s from h1).symm
    subst e
    cases d' with
    | zero => rfl
    | succ d' =>
      obtain ⟨g, gs, e, _⟩ := h2
      rw [e] at h3
      exact absurd h3 (by simp)
  | succ d ih =>
    intro d' n s s' h1 h2 h3
    obtain ⟨g, gs, e, _, h4⟩ := h1
    cases d' with
    | zero =>
      have e' : s' = [] := (show ([] : List tr_H) = s' from h2).symm
      rw [e, e'] at h3
      exact absurd h3 (by simp)
    | succ d' =>
      obtain ⟨g', gs', e', _, h5⟩ := h2
      rw [e, e'] at h3
      simp only [List.map_cons, List.cons.injEq] at h3
      have := ih d' (n + 1) _ _ h4 h5 (by rw [List.map_append, List.map_append, h3.2, h3.1, tr_kidmap (t' := g'.2.1)])
      omega
theorem tr_det1 {d d' n : Nat} {h h' : tr_H} (H : tr_Op cc K A P U O S cT C1 C2 d n [h] []) (H' : tr_Op cc K A P U O S cT C1 C2 d' n [h'] []) (h7 : h.1 ≤ 7) (h7' : h'.1 ≤ 7) : d = d' := by
  refine tr_det _ _ _ _ _ H H' ?_
  have e1 := (tr_cases H).1.1
  have e2 := (tr_cases H').1.1
  rw [e1] at e2
  have := (nI_eq (by omega) (by omega)).mp e2
  simp [this]
/-- the child lies in the parent's subtree -/
theorem tr_in : ∀ (d n : Nat) (h : tr_H), tr_Op cc K A P U O S cT C1 C2 d n [h] [] → 1 ≤ h.1 → h.1 ≤ 7 → n + d < 2 ^ 31 → ∀ k u, n < k → k < n + d → U k = nI u → u < 2 ^ 31 → ∀ du hu, tr_Op cc K A P U O S cT C1 C2 du u [hu] [] → hu.1 ≤ 7 → k < u + du := by
  intro d
  induction d using Nat.strongRecOn with
  | _ d ih =>
    intro n h H p1 p7 hb k u k1 k2 hU hu31 du hu HU hu7
    have kid : ∀ d1 m g, d1 < d → m + d1 ≤ n + d → n < m → g ∈ tr_kids K A C1 C2 n h.1 h.2.1 → tr_Op cc K A P U O S cT C1 C2 d1 m [g] [] → m ≤ k → k < m + d1 → k < u + du := by
      intro d1 m g hd hm hm2 hg hS m1 m2
      by_cases q : k = m
      · subst q
        have e1 := (tr_cases hS).1.2.1
        rw [tr_kidup hg, hU] at e1
        have := (nI_eq hu31 (by omega)).mp e1
        subst this
        have := tr_det1 H HU p7 hu7
        omega
      · have hl := tr_kidlow p1 p7 g hg
        exact ih d1 hd m g hS hl.1 hl.2 (by omega) k u (by omega) m2 hU hu31 du hu HU hu7
    rcases tr_kid3 H with e | ⟨d1, g, e, hm, hg, h5⟩ | ⟨d1, d2, g1, g2, e, hm1, hm2, hg1, hg2, h5, h6⟩
    · omega
    · exact kid d1 (n + 1) g (by omega) (by omega) (by omega) hm h5 (by omega) (by omega)
    · by_cases q2 : k < n + 1 + d1
      · exact kid d1 (n + 1) g1 (by omega) (by omega) (by omega) hm1 h5 (by omega) q2
      · have := tr_pos h5
        exact kid d2 (n + 1 + d1) g2 (by omega) (by omega) (by omega) hm2 h6 (by omega) (by omega)
theorem tr_anc {du u : Nat} {hu : tr_H} (H : tr_Op cc K A P U O S cT C1 C2 du u [hu] []) (hb : u + du < 2 ^ 31) {L : Nat → Prop} : ∀ k, u ≤ k → k < u + du → (∀ j, u < j → j ≤ k → L j → L (U j).toNatClampNeg) → L k → L u := by
  intro k
  induction k using Nat.strongRecOn with
  | _ k ih =>
    intro k1 k2 hj hk
    by_cases q : k = u
    · exact q ▸ hk
    · obtain ⟨w, w1, w2, w3⟩ := tr_up _ _ _ H k (by omega) k2
      have := hj k (by omega) (Nat.le_refl _) hk
      rw [w3, nI_clamp (by omega)] at this
      exact ih w w2 w1 (by omega) (fun j a b => hj j a (by omega)) this
theorem tr_kidown {u p : Nat} {t : Int32} {g : tr_H} (h : g ∈ tr_kids K A C1 C2 u p t) : (K u = 3 → g.2.2.2.1 = nI u) ∧ (K u ≠ 3 → g.2.2.2.1 = -1) := by
  unfold tr_kids at h
  split at h
  · rename_i k; simp at h; rcases h with rfl | rfl <;> exact ⟨fun _ => rfl, fun z => absurd k z⟩
  · rename_i k3
    split at h
    · simp at h; rw [h]; exact ⟨fun z => absurd z k3, fun _ => rfl⟩
    · split at h
      · split at h
        · simp at h
        · split at h
          · simp at h; rw [h]; exact ⟨fun z => absurd z k3, fun _ => rfl⟩
          · simp at h; rcases h with rfl | rfl <;> exact ⟨fun z => absurd z k3, fun _ => rfl⟩
      · simp at h
/-- W: what the walk needs: parents, owners; the next node after a subtree, after a node -/
def tw_par (K U O : Nat → Int32) (f e : Nat) : Prop := O f = -1 ∧ ∀ n, f < n → n < e → ∃ u, f ≤ u ∧ u < n ∧ U n = nI u ∧ (K u = 3 → O n = nI u) ∧ (K u ≠ 3 → O n = -1)
def tw_skip (U : Nat → Int32) (f e n m : Nat) : Prop := n < m ∧ m ≤ e ∧ (∀ k, n < k → k < m → ∃ u, n ≤ u ∧ u < k ∧ U k = nI u) ∧
  (m < e → f < n ∧ ∃ u, f ≤ u ∧ u < n ∧ U m = nI u ∧ ∀ L : Nat → Prop, (∀ j, f < j → j < n → L j → L (U j).toNatClampNeg) → L (U n).toNatClampNeg → L u)
def tw_next (U : Nat → Int32) (f e n : Nat) : Prop := n + 1 < e → ∃ u, f ≤ u ∧ u ≤ n ∧ U (n + 1) = nI u ∧ ∀ L : Nat → Prop, (∀ j, f < j → j ≤ n → L j → L (U j).toNatClampNeg) → L n → L u
theorem tw_par_of {f d p : Nat} {t : Int32} (H : tr_Op cc K A P U O S cT C1 C2 d f [(p, t, -1, -1, 0)] []) : tw_par K U O f (f + d) := by
  refine ⟨(tr_cases H).1.2.2.1, fun n n1 n2 => ?_⟩
  obtain ⟨d', rfl, h1, h2⟩ := tr_root H
  -- holes
  have H' : tr_Op cc K A P U O S cT C1 C2 (d' + 1) f [(p, t, -1, -1, 0)] [] := H
  obtain ⟨hl, hh⟩ := tr_holes _ _ _ _ h2
  have key : ∀ k, f + 1 ≤ k → k < f + 1 + d' → ∃ u, f ≤ u ∧ u < k ∧ U k = nI u ∧ (K u = 3 → O k = nI u) ∧ (K u ≠ 3 → O k = -1) := by
    intro k k1 k2
    obtain ⟨a, b⟩ := hh k k1 k2
    rcases b with b | ⟨u, u1, u2, u3⟩
    · have c := tr_kidown b
      exact ⟨f, Nat.le_refl _, by omega, a.2.1.trans (tr_kidup b), fun z => a.2.2.1.trans (c.1 z), fun z => a.2.2.1.trans (c.2 z)⟩
    · have c := tr_kidown u3
      exact ⟨u, by omega, u2, a.2.1.trans (tr_kidup u3), fun z => a.2.2.1.trans (c.1 z), fun z => a.2.2.1.trans (c.2 z)⟩
  exact key n (by omega) (by omega)
theorem tw_skip_of {f d p dn n : Nat} {t : Int32} {hn : tr_H} (H : tr_Op cc K A P U O S cT C1 C2 d f [(p, t, -1, -1, 0)] []) (p1 : 1 ≤ p) (p7 : p ≤ 7) (hb : f + d < 2 ^ 31) (n1 : f ≤ n) (n2 : n < f + d) (Hn : tr_Op cc K A P U O S cT C1 C2 dn n [hn] []) (hn7 : hn.1 ≤ 7) : tw_skip U f (f + d) n (n + dn) := by
  have hlow : tr_low [((p, t, -1, -1, 0) : tr_H)] := by
    intro g hg; simp at hg; rw [hg]; exact ⟨p1, p7⟩
  obtain ⟨dk, hk, k1, k7, Hk, hle⟩ := tr_sub2 _ _ _ hlow H n n1 n2
  have edk := tr_det1 Hn Hk hn7 k7
  have hpos := tr_pos Hn
  refine ⟨by omega, by omega, fun k a b => tr_up _ _ _ Hn k a (by omega), fun hm => ?_⟩
  obtain ⟨u, u1, u2, u3⟩ := tr_up _ _ _ H (n + dn) (by omega) hm
  obtain ⟨du, hu, hu1, hu7, Hu, hule⟩ := tr_sub2 _ _ _ hlow H u u1 (by omega)
  have hin := tr_in _ _ _ H p1 p7 hb (n + dn) u (by omega) hm u3 (by omega) du hu Hu hu7
  have hun : u < n := by
    apply Classical.byContradiction
    intro z
    obtain ⟨dk2, hk2, a1, a7, Hk2, hle2⟩ := tr_sub2 _ _ _ (fun g hg => by simp at hg; rw [hg]; exact ⟨k1, k7⟩) Hk u (by omega) (by omega)
    have := tr_det1 Hu Hk2 hu7 a7
    omega
  refine ⟨by omega, u, u1, hun, u3, fun L hL hLn => ?_⟩
  obtain ⟨w, w1, w2, w3⟩ := tr_up _ _ _ Hu n (by omega) (by omega)
  rw [w3, nI_clamp (by omega)] at hLn
  exact tr_anc Hu (by omega) w w1 (by omega) (fun j a b => hL j (by omega) (by omega)) hLn
theorem tw_next_of {f d p n : Nat} {t : Int32} (H : tr_Op cc K A P U O S cT C1 C2 d f [(p, t, -1, -1, 0)] []) (p1 : 1 ≤ p) (p7 : p ≤ 7) (hb : f + d < 2 ^ 31) (n1 : f ≤ n) : tw_next U f (f + d) n := by
  intro hn
  have hlow : tr_low [((p, t, -1, -1, 0) : tr_H)] := by
    intro g hg; simp at hg; rw [hg]; exact ⟨p1, p7⟩
  obtain ⟨u, u1, u2, u3⟩ := tr_up _ _ _ H (n + 1) (by omega) hn
  obtain ⟨du, hu, hu1, hu7, Hu, hule⟩ := tr_sub2 _ _ _ hlow H u u1 (by omega)
  have hin := tr_in _ _ _ H p1 p7 hb (n + 1) u (by omega) hn u3 (by omega) du hu Hu hu7
  exact ⟨u, u1, by omega, u3, fun L hL hLn => tr_anc Hu (by omega) n (by omega) (by omega) (fun j a b => hL j (by omega) b) hLn⟩
/-- the ends of the subtrees -/
def tw_AF (cc : Nat) (K A P U O S cT C1 C2 : Nat → Int32) (f e m : Nat) (AF : Nat → Int32) : Prop := ∀ k, m ≤ k → f ≤ k → k < e → ∀ dk hk, hk.1 ≤ 7 → tr_Op cc K A P U O S cT C1 C2 dk k [hk] [] → k + dk ≤ e → AF k = nI (k + dk)
end
end
section
section
variable {tt rl rt cc rc nc hlc clc sc qt : Nat} {ph ro misF lr : Int32} {solM livM : Int64} {a_ctorType a_ctorFirst a_ctorSecond a_typeSize a_typeCtors a_rowFirst a_rowSize a_guardKind a_guardA a_guardB a_clauseFirst a_nodeKind a_nodeArg a_nodePos a_nodeRow a_altOf a_altSide a_nodeNew a_after a_holePos a_holeType a_holeOwner a_holeSide a_clauseRow a_clauseTests a_testHead a_clauseBind a_litCount a_lits a_freshInt a_stateOpen a_statePos a_stateNext a_child a_bucketHead a_pin a_marked a_queue a_val a_valType a_bound : Nat → Int32} {a_clauseNodes a_stateMask : Nat → Int64}
variable {U : Nat → Int32}
theorem xw_holesMade {post : Int32 → Prop} {n : Nat} {g : tr_H} (hcc : cc ≤ 12) (g7 : g.1 ≤ 7) (ok : tr_ok cc a_nodeKind a_nodeArg a_nodePos U a_altOf a_altSide a_ctorType n g) (h : post (nI (tr_kids a_nodeKind a_nodeArg a_ctorFirst a_ctorSecond n g.1 g.2.1).length)) : wpX_holesMade post (nI tt, nI rl, nI rt, ph, nI cc, nI rc, ro, nI nc, nI hlc, nI clc, nI sc, solM, livM, misF, nI qt, lr, a_ctorType, a_ctorFirst, a_ctorSecond, a_typeSize, a_typeCtors, a_rowFirst, a_rowSize, a_guardKind, a_guardA, a_guardB, a_clauseFirst, a_nodeKind, a_nodeArg, a_nodePos, a_nodeRow, a_altOf, a_altSide, a_nodeNew, a_after, a_holePos, a_holeType, a_holeOwner, a_holeSide, a_clauseRow, a_clauseNodes, a_clauseTests, a_testHead, a_clauseBind, a_litCount, a_lits, a_freshInt, a_stateMask, a_stateOpen, a_statePos, a_stateNext, a_child, a_bucketHead, a_pin, a_marked, a_queue, a_val, a_valType, a_bound) (a_nodeKind n) (a_nodeArg n) (a_nodePos n) := by
  unfold tr_kids at h
  refine br_c (fun k3 => ?_) (fun k3 => br_c (fun k4 => ?_) (fun k4 => br_c (fun k1 => ?_) (fun k1 => ?_)))
  · rw [if_pos k3] at h; exact h
  · rw [if_neg k3, if_pos k4] at h; exact h
  · rw [if_neg k3, if_neg k4] at h
    rw [ok.1]
    obtain ⟨c, c1, c2, c3⟩ := ok.2.2.2.2.2.1 k1
    refine pk_lt 3 g.1 (fun z => ?_) (fun z => ?_)
    · rw [if_neg (by omega)] at h; exact h
    · rw [if_pos ⟨k1, z⟩] at h
      have w : vp_in (a_nodeArg n) 12 := by rw [c2]; exact vp_in_nI (by omega) (by omega)
      refine ⟨w, br_c (fun y => ?_) (fun y => ⟨w, br_c (fun x => ?_) (fun x => ?_)⟩)⟩
      · rw [if_pos y] at h; exact h
      · rw [if_neg y, if_pos x] at h; exact h
      · rw [if_neg y, if_neg x] at h; exact h
  · rw [if_neg k3, if_neg k4, if_neg (fun z => k1 z.1)] at h; exact h
theorem xw_link_l {post : SX → Prop} {f d p : Nat} {t : Int32} (hcc : cc ≤ 12) (H : tr_Op cc a_nodeKind a_nodeArg a_nodePos U a_altOf a_altSide a_ctorType a_ctorFirst a_ctorSecond d f [(p, t, -1, -1, 0)] []) (p1 : 1 ≤ p) (p7 : p ≤ 7) (h48 : f + d ≤ 48)
    (h : ∀ AF, tw_AF cc a_nodeKind a_nodeArg a_nodePos U a_altOf a_altSide a_ctorType a_ctorFirst a_ctorSecond f (f + d) f AF → (∀ k, k < f → AF k = a_after k) → post (nI tt, nI rl, nI rt, ph, nI cc, nI rc, ro, nI nc, nI hlc, nI clc, nI sc, solM, livM, misF, nI qt, lr, a_ctorType, a_ctorFirst, a_ctorSecond, a_typeSize, a_typeCtors, a_rowFirst, a_rowSize, a_guardKind, a_guardA, a_guardB, a_clauseFirst, a_nodeKind, a_nodeArg, a_nodePos, a_nodeRow, a_altOf, a_altSide, a_nodeNew, AF, a_holePos, a_holeType, a_holeOwner, a_holeSide, a_clauseRow, a_clauseNodes, a_clauseTests, a_testHead, a_clauseBind, a_litCount, a_lits, a_freshInt, a_stateMask, a_stateOpen, a_statePos, a_stateNext, a_child, a_bucketHead, a_pin, a_marked, a_queue, a_val, a_valType, a_bound)) :
    ∀ j AF, j ≤ d → tw_AF cc a_nodeKind a_nodeArg a_nodePos U a_altOf a_altSide a_ctorType a_ctorFirst a_ctorSecond f (f + d) (f + j) AF → (∀ k, k < f → AF k = a_after k) → wX_linkSubtrees_4 post (nI f) (nI (f + d)) (nI tt) (nI rl) (nI rt) ph (nI cc) (nI rc) ro (nI nc) (nI hlc) (nI clc) (nI sc) solM livM misF (nI qt) lr (j + 1) (nI (f + j) - 1) a_ctorType a_ctorFirst a_ctorSecond a_typeSize a_typeCtors a_rowFirst a_rowSize a_guardKind a_guardA a_guardB a_clauseFirst a_nodeKind a_nodeArg a_nodePos a_nodeRow a_altOf a_altSide a_nodeNew AF a_holePos a_holeType a_holeOwner a_holeSide a_clauseRow a_clauseNodes a_clauseTests a_testHead a_clauseBind a_litCount a_lits a_freshInt a_stateMask a_stateOpen a_statePos a_stateNext a_child a_bucketHead a_pin a_marked a_queue a_val a_valType a_bound := by
  have hlow : tr_low [((p, t, -1, -1, 0) : tr_H)] := by
    intro g hg; simp at hg; rw [hg]; exact ⟨p1, p7⟩
  intro j
  induction j with
  | zero =>
    intro AF h1 h2 h3
    refine br_t ?_ (h AF h2 h3)
    rw [Nat.add_zero, Int32.lt_iff_toInt_lt]
    cases f with
    | zero => decide
    | succ f => rw [nI_pred, nI_toInt (by omega), nI_toInt (by omega)]; omega
  | succ j ih =>
    intro AF h1 h2 h3
    have e1 : nI (f + (j + 1)) - 1 = nI (f + j) := nI_pred (f + j)
    rw [e1]
    have e : (nI (f + j)).toNatClampNeg = f + j := nI_clamp (by omega)
    have w : vp_in (nI (f + j)) 48 := vp_in_nI (by omega) (by omega)
    obtain ⟨dk, g, g1, g7, Hk, hle⟩ := tr_sub2 _ _ _ hlow H (f + j) (by omega) (by omega)
    refine br_f (nI_nlt (by omega) (by omega)) ⟨w, w, w, ?_⟩
    rw [e]
    have done : ∀ AF', AF' = upd AF (f + j) (nI (f + j + dk)) → wX_linkSubtrees_4 post (nI f) (nI (f + d)) (nI tt) (nI rl) (nI rt) ph (nI cc) (nI rc) ro (nI nc) (nI hlc) (nI clc) (nI sc) solM livM misF (nI qt) lr (j + 1) (nI (f + j) + (-1)) a_ctorType a_ctorFirst a_ctorSecond a_typeSize a_typeCtors a_rowFirst a_rowSize a_guardKind a_guardA a_guardB a_clauseFirst a_nodeKind a_nodeArg a_nodePos a_nodeRow a_altOf a_altSide a_nodeNew AF' a_holePos a_holeType a_holeOwner a_holeSide a_clauseRow a_clauseNodes a_clauseTests a_testHead a_clauseBind a_litCount a_lits a_freshInt a_stateMask a_stateOpen a_statePos a_stateNext a_child a_bucketHead a_pin a_marked a_queue a_val a_valType a_bound := by
      intro AF' e'
      subst e'
      have e2 : nI (f + j) + (-1) = nI (f + j) - 1 := (Int32.sub_eq_add_neg _ _).symm
      rw [e2]
      refine ih _ (by omega) (fun k k1 k2 k3 dk' hk' k7 Hk' hle' => ?_) (fun k hk => by rw [pk_un (by omega)]; exact h3 k hk)
      by_cases q : k = f + j
      · subst q
        rw [pk_us, tr_det1 Hk Hk' g7 k7]
      · rw [pk_un q]; exact h2 k (by omega) k2 k3 dk' hk' k7 Hk' hle'
    refine xw_holesMade (U := U) hcc g7 (tr_cases Hk).1 (nm_r (nI_1 (f + j)) ?_)
    have fin : ∀ x k, x = f + j + dk → k = (tr_kids a_nodeKind a_nodeArg a_ctorFirst a_ctorSecond (f + j) g.1 g.2.1).length → k < 4 → ∀ n, wX_linkSubtrees_41 post (wX_linkSubtrees_4 post (nI f) (nI (f + d)) (nI tt) (nI rl) (nI rt) ph (nI cc) (nI rc) ro (nI nc) (nI hlc) (nI clc) (nI sc) solM livM misF (nI qt) lr (j + 1)) (nI f) (nI (f + d)) (nI (f + j)) (nI (tr_kids a_nodeKind a_nodeArg a_ctorFirst a_ctorSecond (f + j) g.1 g.2.1).length) (nI tt) (nI rl) (nI rt) ph (nI cc) (nI rc) ro (nI nc) (nI hlc) (nI clc) (nI sc) solM livM misF (nI qt) lr a_ctorType a_ctorFirst a_ctorSecond a_typeSize a_typeCtors a_rowFirst a_rowSize a_guardKind a_guardA a_guardB a_clauseFirst a_nodeKind a_nodeArg a_nodePos a_nodeRow a_altOf a_altSide a_nodeNew AF a_holePos a_holeType a_holeOwner a_holeSide a_clauseRow a_clauseNodes a_clauseTests a_testHead a_clauseBind a_litCount a_lits a_freshInt a_stateMask a_stateOpen a_statePos a_stateNext a_child a_bucketHead a_pin a_marked a_queue a_val a_valType a_bound (n + 1) (nI x) (nI k) := by
      intro x k ex ek k4 n
      subst ex ek
      exact br_t (nI_le (Nat.le_refl _) (by omega)) ⟨w, nm_r (e' := upd AF (f + j) (nI (f + j + dk))) (by rw [e]) (nm_e (done _ rfl))⟩
    have kidAF : ∀ d1 m g', m + d1 ≤ f + d → f + j < m → g' ∈ tr_kids a_nodeKind a_nodeArg a_ctorFirst a_ctorSecond (f + j) g.1 g.2.1 → tr_Op cc a_nodeKind a_nodeArg a_nodePos U a_altOf a_altSide a_ctorType a_ctorFirst a_ctorSecond d1 m [g'] [] → AF m = nI (m + d1) := by
      intro d1 m g' m1 m2 hg' Hg'
      have := tr_pos Hg'
      exact h2 m (by omega) (by omega) (by omega) d1 g' (tr_kidlow g1 g7 g' hg').2 Hg' m1
    have step : ∀ x y k n, f + j < x → x < f + d → AF x = nI y → k < (tr_kids a_nodeKind a_nodeArg a_ctorFirst a_ctorSecond (f + j) g.1 g.2.1).length → (tr_kids a_nodeKind a_nodeArg a_ctorFirst a_ctorSecond (f + j) g.1 g.2.1).length < 4 →
        wX_linkSubtrees_41 post (wX_linkSubtrees_4 post (nI f) (nI (f + d)) (nI tt) (nI rl) (nI rt) ph (nI cc) (nI rc) ro (nI nc) (nI hlc) (nI clc) (nI sc) solM livM misF (nI qt) lr (j + 1)) (nI f) (nI (f + d)) (nI (f + j)) (nI (tr_kids a_nodeKind a_nodeArg a_ctorFirst a_ctorSecond (f + j) g.1 g.2.1).length) (nI tt) (nI rl) (nI rt) ph (nI cc) (nI rc) ro (nI nc) (nI hlc) (nI clc) (nI sc) solM livM misF (nI qt) lr a_ctorType a_ctorFirst a_ctorSecond a_typeSize a_typeCtors a_rowFirst a_rowSize a_guardKind a_guardA a_guardB a_clauseFirst a_nodeKind a_nodeArg a_nodePos a_nodeRow a_altOf a_altSide a_nodeNew AF a_holePos a_holeType a_holeOwner a_holeSide a_clauseRow a_clauseNodes a_clauseTests a_testHead a_clauseBind a_litCount a_lits a_freshInt a_stateMask a_stateOpen a_statePos a_stateNext a_child a_bucketHead a_pin a_marked a_queue a_val a_valType a_bound n (nI y) (nI (k + 1)) →
        wX_linkSubtrees_41 post (wX_linkSubtrees_4 post (nI f) (nI (f + d)) (nI tt) (nI rl) (nI rt) ph (nI cc) (nI rc) ro (nI nc) (nI hlc) (nI clc) (nI sc) solM livM misF (nI qt) lr (j + 1)) (nI f) (nI (f + d)) (nI (f + j)) (nI (tr_kids a_nodeKind a_nodeArg a_ctorFirst a_ctorSecond (f + j) g.1 g.2.1).length) (nI tt) (nI rl) (nI rt) ph (nI cc) (nI rc) ro (nI nc) (nI hlc) (nI clc) (nI sc) solM livM misF (nI qt) lr a_ctorType a_ctorFirst a_ctorSecond a_typeSize a_typeCtors a_rowFirst a_rowSize a_guardKind a_guardA a_guardB a_clauseFirst a_nodeKind a_nodeArg a_nodePos a_nodeRow a_altOf a_altSide a_nodeNew AF a_holePos a_holeType a_holeOwner a_holeSide a_clauseRow a_clauseNodes a_clauseTests a_testHead a_clauseBind a_litCount a_lits a_freshInt a_stateMask a_stateOpen a_statePos a_stateNext a_child a_bucketHead a_pin a_marked a_queue a_val a_valType a_bound (n + 1) (nI x) (nI k) := by
      intro x y k n x1 x2 hx k1 k4 hn
      exact br_f (nI_ge k1 (by omega)) (br_f (nI_ge x2 (by omega)) ⟨vp_in_nI (by omega) (by omega), nm_r (e' := nI y) (by rw [nI_clamp (by omega)]; exact hx) (nm_r (nI_1 k) hn)⟩)
    rcases (tr_cases Hk).2 with ⟨kk, d1, d2, e', h5, h6⟩ | ⟨kk, d1, e', h5⟩ | ⟨kk, kp, ka, kb, d1, e', h5⟩ | ⟨kk, kp, ka, kb, d1, d2, e', h5, h6⟩ | ⟨k3, k4, k5, e'⟩
    · have ek : tr_kids a_nodeKind a_nodeArg a_ctorFirst a_ctorSecond (f + j) g.1 g.2.1 = [(g.1, g.2.1, nI (f + j), nI (f + j), 0), (g.1, g.2.1, nI (f + j), nI (f + j), 1)] := by unfold tr_kids; rw [if_pos kk]
      have el : (tr_kids a_nodeKind a_nodeArg a_ctorFirst a_ctorSecond (f + j) g.1 g.2.1).length = 2 := by rw [ek]; rfl
      have q1 := tr_pos h5
      have q2 := tr_pos h6
      have a1 := kidAF d1 (f + j + 1) _ (by omega) (by omega) (by rw [ek]; simp) h5
      have a2 := kidAF d2 (f + j + 1 + d1) _ (by omega) (by omega) (by rw [ek]; simp) h6
      exact ⟨3, step _ _ 0 2 (by omega) (by omega) a1 (by omega) (by omega) (step _ _ 1 1 (by omega) (by omega) a2 (by omega) (by omega) (fin _ 2 (by omega) el.symm (by omega) 0))⟩
    · have ek : tr_kids a_nodeKind a_nodeArg a_ctorFirst a_ctorSecond (f + j) g.1 g.2.1 = [(g.1, g.2.1, nI (f + j), -1, 0)] := by unfold tr_kids; rw [if_neg (by rw [kk]; decide), if_pos kk]
      have el : (tr_kids a_nodeKind a_nodeArg a_ctorFirst a_ctorSecond (f + j) g.1 g.2.1).length = 1 := by rw [ek]; rfl
      have q1 := tr_pos h5
      have a1 := kidAF d1 (f + j + 1) _ (by omega) (by omega) (by rw [ek]; simp) h5
      exact ⟨2, step _ _ 0 1 (by omega) (by omega) a1 (by omega) (by omega) (fin _ 1 (by omega) el.symm (by omega) 0)⟩
    · have ek : tr_kids a_nodeKind a_nodeArg a_ctorFirst a_ctorSecond (f + j) g.1 g.2.1 = [(2 * g.1, a_ctorFirst (a_nodeArg (f + j)).toNatClampNeg, nI (f + j), -1, 0)] := by unfold tr_kids; rw [if_neg (by rw [kk]; decide), if_neg (by rw [kk]; decide), if_pos ⟨kk, kp⟩, if_neg ka, if_pos kb]
      have el : (tr_kids a_nodeKind a_nodeArg a_ctorFirst a_ctorSecond (f + j) g.1 g.2.1).length = 1 := by rw [ek]; rfl
      have q1 := tr_pos h5
      have a1 := kidAF d1 (f + j + 1) _ (by omega) (by omega) (by rw [ek]; simp) h5
      exact ⟨2, step _ _ 0 1 (by omega) (by omega) a1 (by omega) (by omega) (fin _ 1 (by omega) el.symm (by omega) 0)⟩
    · have ek : tr_kids a_nodeKind a_nodeArg a_ctorFirst a_ctorSecond (f + j) g.1 g.2.1 = [(2 * g.1, a_ctorFirst (a_nodeArg (f + j)).toNatClampNeg, nI (f + j), -1, 0), (2 * g.1 + 1, a_ctorSecond (a_nodeArg (f + j)).toNatClampNeg, nI (f + j), -1, 0)] := by unfold tr_kids; rw [if_neg (by rw [kk]; decide), if_neg (by rw [kk]; decide), if_pos ⟨kk, kp⟩, if_neg ka, if_neg kb]
      have el : (tr_kids a_nodeKind a_nodeArg a_ctorFirst a_ctorSecond (f + j) g.1 g.2.1).length = 2 := by rw [ek]; rfl
      have q1 := tr_pos h5
      have q2 := tr_pos h6
      have a1 := kidAF d1 (f + j + 1) _ (by omega) (by omega) (by rw [ek]; simp) h5
      have a2 := kidAF d2 (f + j + 1 + d1) _ (by omega) (by omega) (by rw [ek]; simp) h6
      exact ⟨3, step _ _ 0 2 (by omega) (by omega) a1 (by omega) (by omega) (step _ _ 1 1 (by omega) (by omega) a2 (by omega) (by omega) (fin _ 2 (by omega) el.symm (by omega) 0))⟩
    · have ek : tr_kids a_nodeKind a_nodeArg a_ctorFirst a_ctorSecond (f + j) g.1 g.2.1 = [] := by
        unfold tr_kids; rw [if_neg k3, if_neg k4]
        split
        · rename_i kz; rw [if_pos (k5 kz.1 kz.2)]
        · rfl
      have el : (tr_kids a_nodeKind a_nodeArg a_ctorFirst a_ctorSecond (f + j) g.1 g.2.1).length = 0 := by rw [ek]; rfl
      exact ⟨1, fin _ 0 (by omega) el.symm (by omega) 0⟩
theorem xw_link {post : SX → Prop} {f d p : Nat} {t : Int32} (hcc : cc ≤ 12) (H : tr_Op cc a_nodeKind a_nodeArg a_nodePos U a_altOf a_altSide a_ctorType a_ctorFirst a_ctorSecond d f [(p, t, -1, -1, 0)] []) (p1 : 1 ≤ p) (p7 : p ≤ 7) (h48 : f + d ≤ 48)
    (h : ∀ AF, tw_AF cc a_nodeKind a_nodeArg a_nodePos U a_altOf a_altSide a_ctorType a_ctorFirst a_ctorSecond f (f + d) f AF → (∀ k, k < f → AF k = a_after k) → post (nI tt, nI rl, nI rt, ph, nI cc, nI rc, ro, nI nc, nI hlc, nI clc, nI sc, solM, livM, misF, nI qt, lr, a_ctorType, a_ctorFirst, a_ctorSecond, a_typeSize, a_typeCtors, a_rowFirst, a_rowSize, a_guardKind, a_guardA, a_guardB, a_clauseFirst, a_nodeKind, a_nodeArg, a_nodePos, a_nodeRow, a_altOf, a_altSide, a_nodeNew, AF, a_holePos, a_holeType, a_holeOwner, a_holeSide, a_clauseRow, a_clauseNodes, a_clauseTests, a_testHead, a_clauseBind, a_litCount, a_lits, a_freshInt, a_stateMask, a_stateOpen, a_statePos, a_stateNext, a_child, a_bucketHead, a_pin, a_marked, a_queue, a_val, a_valType, a_bound)) : wpX_linkSubtrees post (nI tt, nI rl, nI rt, ph, nI cc, nI rc, ro, nI nc, nI hlc, nI clc, nI sc, solM, livM, misF, nI qt, lr, a_ctorType, a_ctorFirst, a_ctorSecond, a_typeSize, a_typeCtors, a_rowFirst, a_rowSize, a_guardKind, a_guardA, a_guardB, a_clauseFirst, a_nodeKind, a_nodeArg, a_nodePos, a_nodeRow, a_altOf, a_altSide, a_nodeNew, a_after, a_holePos, a_holeType, a_holeOwner, a_holeSide, a_clauseRow, a_clauseNodes, a_clauseTests, a_testHead, a_clauseBind, a_litCount, a_lits, a_freshInt, a_stateMask, a_stateOpen, a_statePos, a_stateNext, a_child, a_bucketHead, a_pin, a_marked, a_queue, a_val, a_valType, a_bound) (nI f) (nI (f + d)) :=
  nm_e ⟨d + 1, xw_link_l (U := U) hcc H p1 p7 h48 h d a_after (Nat.le_refl _) (fun k k1 k2 k3 => by omega) (fun _ _ => rfl)⟩
/-- startClause -/
theorem xw_start {post : SX → Prop} {c : Nat} {r : Int32} (hc : c < 64)
    (h : ∀ TH CB, (∀ p, p < 8 → TH (c * 8 + p) = 0) → (∀ j, j < c * 8 → TH j = a_testHead j) → (∀ v, v < 4 → CB (c * 4 + v) = 0) → (∀ j, j < c * 4 → CB j = a_clauseBind j) →
      post (nI tt, nI rl, nI rt, ph, nI cc, nI rc, ro, nI nc, nI hlc, nI clc, nI sc, solM, livM, misF, nI qt, lr, a_ctorType, a_ctorFirst, a_ctorSecond, a_typeSize, a_typeCtors, a_rowFirst, a_rowSize, a_guardKind, a_guardA, a_guardB, a_clauseFirst, a_nodeKind, a_nodeArg, a_nodePos, a_nodeRow, a_altOf, a_altSide, a_nodeNew, a_after, a_holePos, a_holeType, a_holeOwner, a_holeSide, upd a_clauseRow c r, vp_updL a_clauseNodes c 0, upd a_clauseTests c 0, TH, CB, a_litCount, a_lits, a_freshInt, a_stateMask, a_stateOpen, a_statePos, a_stateNext, a_child, a_bucketHead, a_pin, a_marked, a_queue, a_val, a_valType, a_bound)) : wpX_startClause post (nI tt, nI rl, nI rt, ph, nI cc, nI rc, ro, nI nc, nI hlc, nI clc, nI sc, solM, livM, misF, nI qt, lr, a_ctorType, a_ctorFirst, a_ctorSecond, a_typeSize, a_typeCtors, a_rowFirst, a_rowSize, a_guardKind, a_guardA, a_guardB, a_clauseFirst, a_nodeKind, a_nodeArg, a_nodePos, a_nodeRow, a_altOf, a_altSide, a_nodeNew, a_after, a_holePos, a_holeType, a_holeOwner, a_holeSide, a_clauseRow, a_clauseNodes, a_clauseTests, a_testHead, a_clauseBind, a_litCount, a_lits, a_freshInt, a_stateMask, a_stateOpen, a_statePos, a_stateNext, a_child, a_bucketHead, a_pin, a_marked, a_queue, a_val, a_valType, a_bound) (nI c) r := by
  have e : (nI c).toNatClampNeg = c := nI_clamp (by omega)
  have w : vp_in (nI c) 64 := vp_in_nI hc (by omega)
  have l49 : ∀ TH d i CB, i + d = 4 → (∀ p, p < 8 → TH (c * 8 + p) = 0) → (∀ j, j < c * 8 → TH j = a_testHead j) → (∀ v, v < i → CB (c * 4 + v) = 0) → (∀ j, j < c * 4 → CB j = a_clauseBind j) →
      wX_startClause_49 post (nI c) (nI tt) (nI rl) (nI rt) ph (nI cc) (nI rc) ro (nI nc) (nI hlc) (nI clc) (nI sc) solM livM misF (nI qt) lr (d + 1) (nI i) a_ctorType a_ctorFirst a_ctorSecond a_typeSize a_typeCtors a_rowFirst a_rowSize a_guardKind a_guardA a_guardB a_clauseFirst a_nodeKind a_nodeArg a_nodePos a_nodeRow a_altOf a_altSide a_nodeNew a_after a_holePos a_holeType a_holeOwner a_holeSide (upd a_clauseRow c r) (vp_updL a_clauseNodes c 0) (upd a_clauseTests c 0) TH CB a_litCount a_lits a_freshInt a_stateMask a_stateOpen a_statePos a_stateNext a_child a_bucketHead a_pin a_marked a_queue a_val a_valType a_bound := by
    intro TH d
    induction d with
    | zero =>
      intro i CB h1 t1 t2 b1 b2
      have : i = 4 := by omega
      subst this
      exact br_t (nI_le (a := 4) (b := 4) (by omega) (by omega)) (h TH CB t1 t2 b1 b2)
    | succ d ih =>
      intro i CB h1 t1 t2 b1 b2
      have e4 : nI c * 4 + nI i = nI (c * 4 + i) := by rw [show (4 : Int32) = nI 4 from rfl, pk_mul, nI_add]
      refine br_f (nI_ge (a := i) (b := 4) (by omega) (by omega)) ?_
      rw [e4]
      refine ⟨vp_in_nI (by omega) (by omega), nm_r (e' := upd CB (c * 4 + i) 0) (by rw [nI_clamp (by omega)]) (nm_r (nI_1 i) (ih (i + 1) _ (by omega) t1 t2 (fun v hv => ?_) (fun j hj => by rw [pk_un (by omega)]; exact b2 j hj)))⟩
      by_cases q : v = i
      · subst q; exact pk_us
      · rw [pk_un (by omega)]; exact b1 v (by omega)
  have l23 : ∀ d i TH, i + d = 8 → (∀ p, p < i → TH (c * 8 + p) = 0) → (∀ j, j < c * 8 → TH j = a_testHead j) →
      wX_startClause_23 post (nI c) (nI tt) (nI rl) (nI rt) ph (nI cc) (nI rc) ro (nI nc) (nI hlc) (nI clc) (nI sc) solM livM misF (nI qt) lr (d + 1) (nI i) a_ctorType a_ctorFirst a_ctorSecond a_typeSize a_typeCtors a_rowFirst a_rowSize a_guardKind a_guardA a_guardB a_clauseFirst a_nodeKind a_nodeArg a_nodePos a_nodeRow a_altOf a_altSide a_nodeNew a_after a_holePos a_holeType a_holeOwner a_holeSide (upd a_clauseRow c r) (vp_updL a_clauseNodes c 0) (upd a_clauseTests c 0) TH a_clauseBind a_litCount a_lits a_freshInt a_stateMask a_stateOpen a_statePos a_stateNext a_child a_bucketHead a_pin a_marked a_queue a_val a_valType a_bound := by
    intro d
    induction d with
    | zero =>
      intro i TH h1 t1 t2
      have : i = 8 := by omega
      subst this
      exact br_t (nI_le (a := 8) (b := 8) (by omega) (by omega)) ⟨5, l49 TH 4 0 a_clauseBind (by omega) t1 t2 (fun v hv => by omega) (fun _ _ => rfl)⟩
    | succ d ih =>
      intro i TH h1 t1 t2
      have e4 : nI c * 8 + nI i = nI (c * 8 + i) := by rw [show (8 : Int32) = nI 8 from rfl, pk_mul, nI_add]
      refine br_f (nI_ge (a := i) (b := 8) (by omega) (by omega)) ?_
      rw [e4]
      refine ⟨vp_in_nI (by omega) (by omega), nm_r (e' := upd TH (c * 8 + i) 0) (by rw [nI_clamp (by omega)]) (nm_r (nI_1 i) (ih (i + 1) _ (by omega) (fun v hv => ?_) (fun j hj => by rw [pk_un (by omega)]; exact t2 j hj)))⟩
      by_cases q : v = i
      · subst q; exact pk_us
      · rw [pk_un (by omega)]; exact t1 v (by omega)
  exact ⟨w, nm_r (e' := upd a_clauseRow c r) (by rw [e]) ⟨w, nm_r (e' := vp_updL a_clauseNodes c 0) (by rw [e]) ⟨w, nm_r (e' := upd a_clauseTests c 0) (by rw [e]) ⟨9, l23 8 0 a_testHead (by omega) (fun p hp => by omega) (fun _ _ => rfl)⟩⟩⟩⟩
end
end
section
def xr_bnd (K A P : Nat → Int32) (L : Nat → Bool) (f : Nat) : Nat → Nat → Int32
  | 0, _ => 0
  | j + 1, v => if L (f + j) = true ∧ K (f + j) = 4 ∧ A (f + j) = nI v then P (f + j) else xr_bnd K A P L f j v
theorem xr_bnd_c {K A P : Nat → Int32} {L L' : Nat → Bool} {f v : Nat} : ∀ j, (∀ k, f ≤ k → k < f + j → L' k = L k) → xr_bnd K A P L' f j v = xr_bnd K A P L f j v := by
  intro j
  induction j with
  | zero => intro _; rfl
  | succ j ih =>
    intro h
    rw [xr_bnd, xr_bnd, h (f + j) (by omega) (by omega), ih (fun k a b => h k a (by omega))]
theorem xr_bnd_skip {K A P : Nat → Int32} {L : Nat → Bool} {f v a : Nat} : ∀ j, a ≤ j → (∀ k, f + a ≤ k → k < f + j → L k = false) → xr_bnd K A P L f j v = xr_bnd K A P L f a v := by
  intro j
  induction j with
  | zero => intro h _; have : a = 0 := by omega
            rw [this]
  | succ j ih =>
    intro h1 h2
    by_cases q : a = j + 1
    · rw [q]
    · rw [xr_bnd, if_neg (by rw [h2 (f + j) (by omega) (by omega)]; simp), ih (by omega) (fun k x y => h2 k x (by omega))]
def xr_D (K A P : Nat → Int32) (m : Int64) (T : Int32) (TH CB : Nat → Int32) (c f n : Nat) : Prop :=
  (∀ k, bi_L m k = true → f ≤ k ∧ k < n) ∧
  (∀ p, bt T p = true → p < 8 ∧ ∃ k, bi_L m k = true ∧ (K k = 1 ∨ K k = 2) ∧ P k = nI p ∧ TH (c * 8 + p) = A k) ∧
  (∀ k, bi_L m k = true → (K k = 1 ∨ K k = 2) → ∀ p, P k = nI p → p < 8 → bt T p = true) ∧
  (∀ v, v < 4 → CB (c * 4 + v) = xr_bnd K A P (bi_L m) f (n - f) v)
/-- arrays alike below clause c -/
def xr_fr (c : Nat) (ND ND' : Nat → Int64) (T T' TH TH' CB CB' : Nat → Int32) : Prop := (∀ j, j < c → ND' j = ND j ∧ T' j = T j) ∧ (∀ j, j < c * 8 → TH' j = TH j) ∧ (∀ j, j < c * 4 → CB' j = CB j)
theorem xr_fr_t {c : Nat} {ND ND' ND2 : Nat → Int64} {T T' T2 TH TH' TH2 CB CB' CB2 : Nat → Int32} (h : xr_fr c ND ND' T T' TH TH' CB CB') (h' : xr_fr c ND' ND2 T' T2 TH' TH2 CB' CB2) : xr_fr c ND ND2 T T2 TH TH2 CB CB2 :=
  ⟨fun j hj => ⟨(h'.1 j hj).1.trans (h.1 j hj).1, (h'.1 j hj).2.trans (h.1 j hj).2⟩, fun j hj => (h'.2.1 j hj).trans (h.2.1 j hj), fun j hj => (h'.2.2 j hj).trans (h.2.2 j hj)⟩
section
variable {tt rl rt cc rc nc hlc clc sc qt : Nat} {ph ro misF lr : Int32} {solM livM : Int64} {a_ctorType a_ctorFirst a_ctorSecond a_typeSize a_typeCtors a_rowFirst a_rowSize a_guardKind a_guardA a_guardB a_clauseFirst a_nodeKind a_nodeArg a_nodePos a_nodeRow a_altOf a_altSide a_nodeNew a_after a_holePos a_holeType a_holeOwner a_holeSide a_clauseRow a_clauseTests a_testHead a_clauseBind a_litCount a_lits a_freshInt a_stateOpen a_statePos a_stateNext a_child a_bucketHead a_pin a_marked a_queue a_val a_valType a_bound : Nat → Int32} {a_clauseNodes a_stateMask : Nat → Int64}
variable {U : Nat → Int32}
theorem xw_take {post : SX → Prop} {c f n p : Nat} (hc : c < 64) (hn : n < 48) (hf : f ≤ n) (hp : a_nodePos n = nI p) (p7 : p ≤ 7) (hb : a_nodeKind n = 4 → ∃ v, v < 4 ∧ a_nodeArg n = nI v)
    (D : xr_D a_nodeKind a_nodeArg a_nodePos (a_clauseNodes c) (a_clauseTests c) a_testHead a_clauseBind c f n)
    (h : ∀ ND T TH CB, xr_D a_nodeKind a_nodeArg a_nodePos (ND c) (T c) TH CB c f (n + 1) → (∀ k, bi_L (ND c) k = (bi_L (a_clauseNodes c) k || decide (k = n))) → xr_fr c a_clauseNodes ND a_clauseTests T a_testHead TH a_clauseBind CB → post (nI tt, nI rl, nI rt, ph, nI cc, nI rc, ro, nI nc, nI hlc, nI clc, nI sc, solM, livM, misF, nI qt, lr, a_ctorType, a_ctorFirst, a_ctorSecond, a_typeSize, a_typeCtors, a_rowFirst, a_rowSize, a_guardKind, a_guardA, a_guardB, a_clauseFirst, a_nodeKind, a_nodeArg, a_nodePos, a_nodeRow, a_altOf, a_altSide, a_nodeNew, a_after, a_holePos, a_holeType, a_holeOwner, a_holeSide, a_clauseRow, ND, T, TH, CB, a_litCount, a_lits, a_freshInt, a_stateMask, a_stateOpen, a_statePos, a_stateNext, a_child, a_bucketHead, a_pin, a_marked, a_queue, a_val, a_valType, a_bound)) : wpX_takeNode post (nI tt, nI rl, nI rt, ph, nI cc, nI rc, ro, nI nc, nI hlc, nI clc, nI sc, solM, livM, misF, nI qt, lr, a_ctorType, a_ctorFirst, a_ctorSecond, a_typeSize, a_typeCtors, a_rowFirst, a_rowSize, a_guardKind, a_guardA, a_guardB, a_clauseFirst, a_nodeKind, a_nodeArg, a_nodePos, a_nodeRow, a_altOf, a_altSide, a_nodeNew, a_after, a_holePos, a_holeType, a_holeOwner, a_holeSide, a_clauseRow, a_clauseNodes, a_clauseTests, a_testHead, a_clauseBind, a_litCount, a_lits, a_freshInt, a_stateMask, a_stateOpen, a_statePos, a_stateNext, a_child, a_bucketHead, a_pin, a_marked, a_queue, a_val, a_valType, a_bound) (nI c) (nI n) := by
  have ec : (nI c).toNatClampNeg = c := nI_clamp (by omega)
  have en : (nI n).toNatClampNeg = n := nI_clamp (by omega)
  have wc : vp_in (nI c) 64 := vp_in_nI hc (by omega)
  have wn : vp_in (nI n) 48 := vp_in_nI hn (by omega)
  have kb : ∀ k, bi_L (vp_updL a_clauseNodes c (a_clauseNodes c ||| ((1 : Int64) <<< ((nI n).toInt64 &&& 63))) c) k = (bi_L (a_clauseNodes c) k || decide (k = n)) := by
    intro k; rw [pk_uLs]; exact bi_set (by omega) _ _
  have kt : ∀ k, bi_L (vp_updL a_clauseNodes c (a_clauseNodes c ||| ((1 : Int64) <<< ((nI n).toInt64 &&& 63))) c) k = true ↔ bi_L (a_clauseNodes c) k = true ∨ k = n := by
    intro k; rw [kb]; simp
  have d1 : ∀ k, bi_L (vp_updL a_clauseNodes c (a_clauseNodes c ||| ((1 : Int64) <<< ((nI n).toInt64 &&& 63))) c) k = true → f ≤ k ∧ k < n + 1 := by
    intro k hk
    rcases (kt k).mp hk with z | z
    · have := D.1 k z; omega
    · omega
  have bstep : ∀ v, xr_bnd a_nodeKind a_nodeArg a_nodePos (bi_L (vp_updL a_clauseNodes c (a_clauseNodes c ||| ((1 : Int64) <<< ((nI n).toInt64 &&& 63))) c)) f (n + 1 - f) v = if a_nodeKind n = 4 ∧ a_nodeArg n = nI v then a_nodePos n else xr_bnd a_nodeKind a_nodeArg a_nodePos (bi_L (a_clauseNodes c)) f (n - f) v := by
    intro v
    rw [show n + 1 - f = (n - f) + 1 by omega, xr_bnd, show f + (n - f) = n by omega]
    have : bi_L (vp_updL a_clauseNodes c (a_clauseNodes c ||| ((1 : Int64) <<< ((nI n).toInt64 &&& 63))) c) n = true := (kt n).mpr (Or.inr rfl)
    rw [this, xr_bnd_c (L := bi_L (a_clauseNodes c)) (n - f) (fun k a b => by rw [kb, decide_eq_false (by omega), Bool.or_false])]
    simp
  have frN : ∀ j, j < c → vp_updL a_clauseNodes c (a_clauseNodes c ||| ((1 : Int64) <<< ((nI n).toInt64 &&& 63))) j = a_clauseNodes j := fun j hj => pk_uLn (by omega)
  have test : (a_nodeKind n = 1 ∨ a_nodeKind n = 2) → wX_takeNode_37 post (nI c) (nI n) (nI p) (nI tt) (nI rl) (nI rt) ph (nI cc) (nI rc) ro (nI nc) (nI hlc) (nI clc) (nI sc) solM livM misF (nI qt) lr a_ctorType a_ctorFirst a_ctorSecond a_typeSize a_typeCtors a_rowFirst a_rowSize a_guardKind a_guardA a_guardB a_clauseFirst a_nodeKind a_nodeArg a_nodePos a_nodeRow a_altOf a_altSide a_nodeNew a_after a_holePos a_holeType a_holeOwner a_holeSide a_clauseRow (vp_updL a_clauseNodes c (a_clauseNodes c ||| ((1 : Int64) <<< ((nI n).toInt64 &&& 63)))) a_clauseTests a_testHead a_clauseBind a_litCount a_lits a_freshInt a_stateMask a_stateOpen a_statePos a_stateNext a_child a_bucketHead a_pin a_marked a_queue a_val a_valType a_bound := by
    intro ht
    have e8 : nI c * 8 + nI p = nI (c * 8 + p) := by rw [show (8 : Int32) = nI 8 from rfl, pk_mul, nI_add]
    unfold wX_takeNode_37
    rw [e8, ec, en, nI_clamp (by omega : c * 8 + p < 2 ^ 31)]
    refine ⟨wc, wc, nm_e ⟨wn, vp_in_nI (by omega) (by omega), nm_e (h _ _ _ _ ⟨d1, fun q hq => ?_, fun k hk tk q hq q8 => ?_, fun v hv => ?_⟩ kb ⟨fun j hj => ⟨frN j hj, pk_un (by omega)⟩, fun j hj => pk_un (by omega), fun _ _ => rfl⟩)⟩⟩
    · rw [pk_us, bi_tset (by omega)] at hq
      by_cases e : q = p
      · subst e; exact ⟨by omega, n, (kt n).mpr (Or.inr rfl), ht, hp, pk_us⟩
      · have hq' : bt (a_clauseTests c) q = true := by simpa [e] using hq
        obtain ⟨q8, k, k1, k2, k3, k4⟩ := D.2.1 q hq'
        exact ⟨q8, k, (kt k).mpr (Or.inl k1), k2, k3, by rw [pk_un (by omega)]; exact k4⟩
    · rw [pk_us, bi_tset (by omega)]
      rcases (kt k).mp hk with z | z
      · rw [D.2.2.1 k z tk q hq q8]; rfl
      · subst z
        rw [hp] at hq
        have := (nI_eq (by omega) (by omega)).mp hq
        simp [this]
    · rw [bstep v, if_neg, D.2.2.2 v hv]
      rintro ⟨z, _⟩
      rw [z] at ht
      exact absurd ht (by decide)
  refine ⟨wn, nm_r (e' := a_nodeKind n) (by rw [en]) ⟨wn, nm_r (e' := nI p) (by rw [en]; exact hp) ⟨wc, wc, nm_r (e' := vp_updL a_clauseNodes c (a_clauseNodes c ||| ((1 : Int64) <<< ((nI n).toInt64 &&& 63)))) (by rw [ec]) (br_c (fun k1 => test (Or.inl k1)) (fun k1 => br_c (fun k2 => test (Or.inr k2)) (fun k2 => br_c (fun k4 => ⟨wn, ?_⟩) (fun k4 => h _ _ _ _ ⟨d1, fun q hq => ?_, fun k hk tk q hq q8 => ?_, fun v hv => ?_⟩ kb ⟨fun j hj => ⟨frN j hj, rfl⟩, fun _ _ => rfl, fun _ _ => rfl⟩))))⟩⟩⟩
  · obtain ⟨v0, v4, ev⟩ := hb k4
    have e4 : nI c * 4 + a_nodeArg n = nI (c * 4 + v0) := by rw [ev, show (4 : Int32) = nI 4 from rfl, pk_mul, nI_add]
    rw [en, e4, nI_clamp (by omega : c * 4 + v0 < 2 ^ 31)]
    refine ⟨vp_in_nI (by omega) (by omega), nm_e (h _ _ _ _ ⟨d1, fun q hq => ?_, fun k hk tk q hq q8 => ?_, fun v hv => ?_⟩ kb ⟨fun j hj => ⟨frN j hj, rfl⟩, fun _ _ => rfl, fun j hj => pk_un (by omega)⟩)⟩
    · obtain ⟨q8, k, x1, x2, x3, x4⟩ := D.2.1 q hq
      exact ⟨q8, k, (kt k).mpr (Or.inl x1), x2, x3, x4⟩
    · rcases (kt k).mp hk with z | z
      · exact D.2.2.1 k z tk q hq q8
      · subst z; rcases tk with tk | tk
        · exact absurd tk k1
        · exact absurd tk k2
    · rw [bstep v]
      by_cases e : v = v0
      · subst e; rw [pk_us, if_pos ⟨k4, ev⟩, hp]
      · rw [pk_un (by omega), if_neg, D.2.2.2 v hv]
        rintro ⟨_, z⟩
        rw [ev] at z
        exact e ((nI_eq (by omega) (by omega)).mp z).symm
  · obtain ⟨q8, k, x1, x2, x3, x4⟩ := D.2.1 q hq
    exact ⟨q8, k, (kt k).mpr (Or.inl x1), x2, x3, x4⟩
  · rcases (kt k).mp hk with z | z
    · exact D.2.2.1 k z tk q hq q8
    · subst z; rcases tk with tk | tk
      · exact absurd tk k1
      · exact absurd tk k2
  · rw [bstep v, if_neg (fun z => k4 z.1), D.2.2.2 v hv]
theorem xw_isSkipped {post : Int32 → Prop} {f e n : Nat} {ch : Int32} (W : tw_par a_nodeKind U a_altOf f e) (n1 : f ≤ n) (n2 : n < e) (h48 : e ≤ 48) (h16 : e ≤ f + 16)
    (h0 : (f < n → a_nodeKind (U n).toNatClampNeg = 3 → a_altSide n = lc_b (bt ch ((U n).toNatClampNeg - f))) → post 0) (h1 : f < n → a_nodeKind (U n).toNatClampNeg = 3 → ¬ a_altSide n = lc_b (bt ch ((U n).toNatClampNeg - f)) → post 1) : wpX_isSkipped post (nI tt, nI rl, nI rt, ph, nI cc, nI rc, ro, nI nc, nI hlc, nI clc, nI sc, solM, livM, misF, nI qt, lr, a_ctorType, a_ctorFirst, a_ctorSecond, a_typeSize, a_typeCtors, a_rowFirst, a_rowSize, a_guardKind, a_guardA, a_guardB, a_clauseFirst, a_nodeKind, a_nodeArg, a_nodePos, a_nodeRow, a_altOf, a_altSide, a_nodeNew, a_after, a_holePos, a_holeType, a_holeOwner, a_holeSide, a_clauseRow, a_clauseNodes, a_clauseTests, a_testHead, a_clauseBind, a_litCount, a_lits, a_freshInt, a_stateMask, a_stateOpen, a_statePos, a_stateNext, a_child, a_bucketHead, a_pin, a_marked, a_queue, a_val, a_valType, a_bound) (nI n) (nI f) ch := by
  have en : (nI n).toNatClampNeg = n := nI_clamp (by omega)
  have wn : vp_in (nI n) 48 := vp_in_nI (by omega) (by omega)
  have m1 : ¬ nI f ≤ -1 := by
    rw [Int32.le_iff_toInt_le, nI_toInt (by omega), show (-1 : Int32).toInt = -1 from by decide]; omega
  by_cases q : n = f
  · subst q
    exact ⟨wn, nm_r (e' := -1) (by rw [en]; exact W.1) (br_f m1 (h0 (fun z => by omega)))⟩
  · obtain ⟨u, u1, u2, u3, u4, u5⟩ := W.2 n (by omega) n2
    rw [u3, nI_clamp (by omega)] at h0 h1
    by_cases k3 : a_nodeKind u = 3
    · refine ⟨wn, nm_r (e' := nI u) (by rw [en]; exact u4 k3) (br_t (nI_le u1 (by omega)) ⟨wn, ?_⟩)⟩
      rw [en, pk_sub u1, bi_t1 ch (by omega)]
      refine br_c (fun z => h0 (fun _ _ => z.symm)) (fun z => h1 (by omega) k3 (fun y => z y.symm))
    · exact ⟨wn, nm_r (e' := -1) (by rw [en]; exact u5 k3) (br_f m1 (h0 (fun _ z => absurd z k3)))⟩
/-- a clause is added: what it takes is live under the choice -/
def xr_Fl (K : Nat → Int32) (f n : Nat) (ch : Nat → Bool) (L : Nat → Prop) (x6 : Int32) : Prop :=
  (x6 = -1 ∧ ∀ k, f ≤ k → k < n → K k = 3 → L k → ch k = true) ∨ ∃ g, f ≤ g ∧ g < n ∧ x6 = nI (g - f) ∧ K g = 3 ∧ L g ∧ ch g = false ∧ ∀ k, g < k → k < n → K k = 3 → L k → ch k = true
def xr_nx (K : Nat → Int32) (f n : Nat) (ch : Int32) (L : Nat → Prop) (r : Int32) : Prop :=
  (r = -1 ∧ ∀ k, f ≤ k → k < n → K k = 3 → L k → bt ch (k - f) = true) ∨ (¬ r < 0 ∧ ∃ g, f ≤ g ∧ g < n ∧ (∀ i, i < 32 → bt r i = ((decide (i < g - f) && bt ch i) || decide (i = g - f))) ∧ K g = 3 ∧ L g ∧ bt ch (g - f) = false ∧ ∀ k, g < k → k < n → K k = 3 → L k → bt ch (k - f) = true)
theorem xw_add114 {post : Int32 → SX → Prop} {ch x6 : Int32} {c f e : Nat} (hc : c < 64) (h16 : e ≤ f + 16) (h31 : bt ch 31 = false) (F : xr_Fl a_nodeKind f e (fun k => bt ch (k - f)) (fun k => bi_L (a_clauseNodes c) k = true) x6)
    (h : ∀ r, xr_nx a_nodeKind f e ch (fun k => bi_L (a_clauseNodes c) k = true) r → post r (nI tt, nI rl, nI rt, ph, nI cc, nI rc, ro, nI nc, nI hlc, nI (c + 1), nI sc, solM, livM, misF, nI qt, lr, a_ctorType, a_ctorFirst, a_ctorSecond, a_typeSize, a_typeCtors, a_rowFirst, a_rowSize, a_guardKind, a_guardA, a_guardB, a_clauseFirst, a_nodeKind, a_nodeArg, a_nodePos, a_nodeRow, a_altOf, a_altSide, a_nodeNew, a_after, a_holePos, a_holeType, a_holeOwner, a_holeSide, a_clauseRow, a_clauseNodes, a_clauseTests, a_testHead, a_clauseBind, a_litCount, a_lits, a_freshInt, a_stateMask, a_stateOpen, a_statePos, a_stateNext, a_child, a_bucketHead, a_pin, a_marked, a_queue, a_val, a_valType, a_bound)) : wX_addClause_114 post ch (nI c) x6 (nI tt) (nI rl) (nI rt) ph (nI cc) (nI rc) ro (nI nc) (nI hlc) (nI clc) (nI sc) solM livM misF (nI qt) lr a_ctorType a_ctorFirst a_ctorSecond a_typeSize a_typeCtors a_rowFirst a_rowSize a_guardKind a_guardA a_guardB a_clauseFirst a_nodeKind a_nodeArg a_nodePos a_nodeRow a_altOf a_altSide a_nodeNew a_after a_holePos a_holeType a_holeOwner a_holeSide a_clauseRow a_clauseNodes a_clauseTests a_testHead a_clauseBind a_litCount a_lits a_freshInt a_stateMask a_stateOpen a_statePos a_stateNext a_child a_bucketHead a_pin a_marked a_queue a_val a_valType a_bound := by
  refine nm_r (nI_1 c) ?_
  rcases F with ⟨rfl, F⟩ | ⟨g, g1, g2, rfl, g3, g4, g5, g6⟩
  · exact br_f (by decide) (h _ (Or.inl ⟨rfl, F⟩))
  · refine br_t (nI_pos' (by omega)) (nm_e (h _ (Or.inr ⟨bi_pos ?_, g, g1, g2, fun i hi => bi_next (by omega) _ hi, g3, g4, g5, g6⟩)))
    rw [bi_next (by omega) _ (by omega), h31]
    have : ¬ 31 = g - f := by omega
    simp [this]
theorem xw_add31 {post : Int32 → SX → Prop} {ch : Int32} {c f d : Nat} (hc : c < 64) (h48 : f + d ≤ 48) (h16 : d ≤ 16) (h31 : bt ch 31 = false) (W : tw_par a_nodeKind U a_altOf f (f + d)) (WS : ∀ n, f ≤ n → n < f + d → ∃ m, a_after n = nI m ∧ tw_skip U f (f + d) n m) (WN : ∀ n, f ≤ n → tw_next U f (f + d) n)
    (hP : ∀ n, f ≤ n → n < f + d → ∃ p, a_nodePos n = nI p ∧ p ≤ 7) (hB : ∀ n, f ≤ n → n < f + d → a_nodeKind n = 4 → ∃ v, v < 4 ∧ a_nodeArg n = nI v) {ND0 : Nat → Int64} {T0 TH0 CB0 : Nat → Int32}
    (h : ∀ r ND T TH CB, xr_D a_nodeKind a_nodeArg a_nodePos (ND c) (T c) TH CB c f (f + d) → lc_Lv a_nodeKind U a_altSide (fun k => bt ch (k - f)) (fun k => bi_L (ND c) k = true) f (f + d) → xr_nx a_nodeKind f (f + d) ch (fun k => bi_L (ND c) k = true) r → xr_fr c ND0 ND T0 T TH0 TH CB0 CB → post r (nI tt, nI rl, nI rt, ph, nI cc, nI rc, ro, nI nc, nI hlc, nI (c + 1), nI sc, solM, livM, misF, nI qt, lr, a_ctorType, a_ctorFirst, a_ctorSecond, a_typeSize, a_typeCtors, a_rowFirst, a_rowSize, a_guardKind, a_guardA, a_guardB, a_clauseFirst, a_nodeKind, a_nodeArg, a_nodePos, a_nodeRow, a_altOf, a_altSide, a_nodeNew, a_after, a_holePos, a_holeType, a_holeOwner, a_holeSide, a_clauseRow, ND, T, TH, CB, a_litCount, a_lits, a_freshInt, a_stateMask, a_stateOpen, a_statePos, a_stateNext, a_child, a_bucketHead, a_pin, a_marked, a_queue, a_val, a_valType, a_bound)) :
    ∀ j n st x6 ND T TH CB, f + d ≤ j + n → n ≤ f + d → f ≤ n → st ≤ n - f → xr_D a_nodeKind a_nodeArg a_nodePos (ND c) (T c) TH CB c f n → (f < n → lc_Lv a_nodeKind U a_altSide (fun k => bt ch (k - f)) (fun k => bi_L (ND c) k = true) f n) → (f < n → n < f + d → bi_L (ND c) (U n).toNatClampNeg = true) →
      xr_Fl a_nodeKind f n (fun k => bt ch (k - f)) (fun k => bi_L (ND c) k = true) x6 → xr_fr c ND0 ND T0 T TH0 TH CB0 CB → 0 < d →
      wX_addClause_31 post (nI f) (nI (f + d)) ch (nI c) (j + 1) x6 (nI n) (nI st) (nI tt) (nI rl) (nI rt) ph (nI cc) (nI rc) ro (nI nc) (nI hlc) (nI clc) (nI sc) solM livM misF (nI qt) lr a_ctorType a_ctorFirst a_ctorSecond a_typeSize a_typeCtors a_rowFirst a_rowSize a_guardKind a_guardA a_guardB a_clauseFirst a_nodeKind a_nodeArg a_nodePos a_nodeRow a_altOf a_altSide a_nodeNew a_after a_holePos a_holeType a_holeOwner a_holeSide a_clauseRow ND T TH CB a_litCount a_lits a_freshInt a_stateMask a_stateOpen a_statePos a_stateNext a_child a_bucketHead a_pin a_marked a_queue a_val a_valType a_bound := by
  have done : ∀ j n st x6 ND T TH CB, n = f + d → xr_D a_nodeKind a_nodeArg a_nodePos (ND c) (T c) TH CB c f n → (f < n → lc_Lv a_nodeKind U a_altSide (fun k => bt ch (k - f)) (fun k => bi_L (ND c) k = true) f n) →
      xr_Fl a_nodeKind f n (fun k => bt ch (k - f)) (fun k => bi_L (ND c) k = true) x6 → xr_fr c ND0 ND T0 T TH0 TH CB0 CB → 0 < d →
      wX_addClause_31 post (nI f) (nI (f + d)) ch (nI c) (j + 1) x6 (nI n) st (nI tt) (nI rl) (nI rt) ph (nI cc) (nI rc) ro (nI nc) (nI hlc) (nI clc) (nI sc) solM livM misF (nI qt) lr a_ctorType a_ctorFirst a_ctorSecond a_typeSize a_typeCtors a_rowFirst a_rowSize a_guardKind a_guardA a_guardB a_clauseFirst a_nodeKind a_nodeArg a_nodePos a_nodeRow a_altOf a_altSide a_nodeNew a_after a_holePos a_holeType a_holeOwner a_holeSide a_clauseRow ND T TH CB a_litCount a_lits a_freshInt a_stateMask a_stateOpen a_statePos a_stateNext a_child a_bucketHead a_pin a_marked a_queue a_val a_valType a_bound := by
    intro j n st x6 ND T TH CB he D Lv F Fr hd
    subst he
    have fin : wX_addClause_114 post ch (nI c) x6 (nI tt) (nI rl) (nI rt) ph (nI cc) (nI rc) ro (nI nc) (nI hlc) (nI clc) (nI sc) solM livM misF (nI qt) lr a_ctorType a_ctorFirst a_ctorSecond a_typeSize a_typeCtors a_rowFirst a_rowSize a_guardKind a_guardA a_guardB a_clauseFirst a_nodeKind a_nodeArg a_nodePos a_nodeRow a_altOf a_altSide a_nodeNew a_after a_holePos a_holeType a_holeOwner a_holeSide a_clauseRow ND T TH CB a_litCount a_lits a_freshInt a_stateMask a_stateOpen a_statePos a_stateNext a_child a_bucketHead a_pin a_marked a_queue a_val a_valType a_bound := xw_add114 hc (by omega : f + d ≤ f + 16) h31 F (fun r hr => h r ND T TH CB D (Lv (by omega)) hr Fr)
    exact br_c (fun _ => fin) (fun _ => br_t (nI_le (by omega) (by omega)) fin)
  intro j
  induction j with
  | zero =>
    intro n st x6 ND T TH CB hj hle hn hst D Lv Pn F Fr hd
    exact done 0 n _ x6 ND T TH CB (by omega) D Lv F Fr hd
  | succ j ih =>
    intro n st x6 ND T TH CB hj hle hn hst D Lv Pn F Fr hd
    by_cases he : n = f + d
    · exact done _ n _ x6 ND T TH CB he D Lv F Fr hd
    · refine br_f (nI_ge (a := st) (b := 16) (by omega) (by omega)) (br_f (nI_ge (by omega) (by omega)) (xw_isSkipped W hn (by omega) h48 (by omega) (fun hs => br_t rfl ?_) (fun hf hk hs => br_f (by decide) ?_)))
      · -- taken
        obtain ⟨p, hp, p7⟩ := hP n hn (by omega)
        have en : (nI n).toNatClampNeg = n := nI_clamp (by omega)
        refine xw_take hc (by omega) hn hp p7 (hB n hn (by omega)) D (fun ND' T' TH' CB' D' hb Fr' => ⟨vp_in_nI (by omega) (by omega), ?_⟩)
        have hbt : ∀ k, bi_L (ND' c) k = true ↔ bi_L (ND c) k = true ∨ k = n := by intro k; rw [hb k]; simp
        have Lv' : lc_Lv a_nodeKind U a_altSide (fun k => bt ch (k - f)) (fun k => bi_L (ND' c) k = true) f (n + 1) := by
          refine ⟨?_, fun k k1 k2 => ?_⟩
          · show bi_L (ND' c) f = true
            rw [hbt]
            by_cases q : f = n
            · exact Or.inr q
            · exact Or.inl (Lv (by omega)).1
          · obtain ⟨u, u1, u2, u3, u4, u5⟩ := W.2 k k1 (by omega)
            rw [u3, nI_clamp (by omega)]
            show bi_L (ND' c) k = true ↔ bi_L (ND' c) u = true ∧ _
            rw [hbt, hbt]
            by_cases q : k = n
            · subst q
              rw [u3, nI_clamp (by omega)] at hs
              have pu := Pn k1 (by omega)
              rw [u3, nI_clamp (by omega)] at pu
              exact ⟨fun _ => ⟨Or.inl pu, hs k1⟩, fun _ => Or.inr rfl⟩
            · have := (Lv (by omega)).2 k k1 (by omega)
              rw [u3, nI_clamp (by omega)] at this
              constructor
              · rintro (z | z)
                · exact ⟨Or.inl (this.mp z).1, (this.mp z).2⟩
                · exact absurd z q
              · rintro ⟨z | z, y⟩
                · exact Or.inl (this.mpr ⟨z, y⟩)
                · omega
        have Pn' : f < n + 1 → n + 1 < f + d → bi_L (ND' c) (U (n + 1)).toNatClampNeg = true := by
          intro _ h2
          obtain ⟨u, u1, u2, u3, u4⟩ := WN n hn h2
          rw [u3, nI_clamp (by omega)]
          exact u4 (fun k => bi_L (ND' c) k = true) (fun k k1 k2 hk => ((Lv'.2 k k1 (by omega)).mp hk).1) ((hbt n).mpr (Or.inr rfl))
        have Fold : ∀ x, xr_Fl a_nodeKind f n (fun k => bt ch (k - f)) (fun k => bi_L (ND c) k = true) x → (a_nodeKind n = 3 → bt ch (n - f) = true) → xr_Fl a_nodeKind f (n + 1) (fun k => bt ch (k - f)) (fun k => bi_L (ND' c) k = true) x := by
          intro x hx hn3
          rcases hx with ⟨e1, F1⟩ | ⟨g, g1, g2, g3, g4, g5, g6, g7⟩
          · refine Or.inl ⟨e1, fun k k1 k2 k3 k4 => ?_⟩
            rcases (hbt k).mp k4 with z | z
            · have := D.1 k z; exact F1 k k1 this.2 k3 z
            · subst z; exact hn3 k3
          · refine Or.inr ⟨g, g1, by omega, g3, g4, (hbt g).mpr (Or.inl g5), g6, fun k k1 k2 k3 k4 => ?_⟩
            rcases (hbt k).mp k4 with z | z
            · have := D.1 k z; exact g7 k k1 this.2 k3 z
            · subst z; exact hn3 k3
        have go : ∀ x, xr_Fl a_nodeKind f (n + 1) (fun k => bt ch (k - f)) (fun k => bi_L (ND' c) k = true) x → wX_addClause_31 post (nI f) (nI (f + d)) ch (nI c) (j + 1) x (nI (n + 1)) (nI (st + 1)) (nI tt) (nI rl) (nI rt) ph (nI cc) (nI rc) ro (nI nc) (nI hlc) (nI clc) (nI sc) solM livM misF (nI qt) lr a_ctorType a_ctorFirst a_ctorSecond a_typeSize a_typeCtors a_rowFirst a_rowSize a_guardKind a_guardA a_guardB a_clauseFirst a_nodeKind a_nodeArg a_nodePos a_nodeRow a_altOf a_altSide a_nodeNew a_after a_holePos a_holeType a_holeOwner a_holeSide a_clauseRow ND' T' TH' CB' a_litCount a_lits a_freshInt a_stateMask a_stateOpen a_statePos a_stateNext a_child a_bucketHead a_pin a_marked a_queue a_val a_valType a_bound :=
          fun x hx => ih (n + 1) (st + 1) x ND' T' TH' CB' (by omega) (by omega) (by omega) (by omega) D' (fun _ => Lv') Pn' hx (xr_fr_t Fr Fr') hd
        rw [en]
        refine br_c (fun k3 => ?_) (fun k3 => nm_r (nI_1 n) (nm_r (nI_1 st) (go _ (Fold _ F (fun z => absurd z k3)))))
        rw [pk_sub hn]
        refine xw_tbit (by omega) (fun hz => nm_e (nm_r (nI_1 n) (nm_r (nI_1 st) (go _ ?_)))) (fun hz => nm_r (nI_1 n) (nm_r (nI_1 st) (go _ (Fold _ F (fun _ => hz)))))
        exact Or.inr ⟨n, hn, by omega, rfl, k3, (hbt n).mpr (Or.inr rfl), hz, fun k k1 k2 => by omega⟩
      · -- skipped
        obtain ⟨m, m1, s1, s2, s3, s4⟩ := WS n hn (by omega)
        refine ⟨vp_in_nI (by omega) (by omega), nm_r (e' := nI m) (by rw [nI_clamp (by omega)]; exact m1) (nm_r (nI_1 st) ?_)⟩
        have nb : ∀ k, n ≤ k → bi_L (ND c) k = false := by
          intro k hk
          cases hq : bi_L (ND c) k with
          | false => rfl
          | true => have := D.1 k hq; omega
        refine ih m (st + 1) x6 ND T TH CB (by omega) (by omega) (by omega) (by omega) ⟨fun k hk => by have := D.1 k hk; omega, D.2.1, D.2.2.1, fun v hv => ?_⟩ (fun _ => ⟨(Lv hf).1, fun k k1 k2 => ?_⟩) (fun _ hm => ?_) ?_ Fr hd
        · rw [D.2.2.2 v hv]
          exact (xr_bnd_skip (m - f) (by omega) (fun k a b => nb k (by omega))).symm
        · by_cases q : k < n
          · exact (Lv hf).2 k k1 q
          · show bi_L (ND c) k = true ↔ bi_L (ND c) (U k).toNatClampNeg = true ∧ _
            rw [nb k (by omega)]
            refine ⟨fun z => absurd z (by decide), fun z => ?_⟩
            exfalso
            by_cases q2 : k = n
            · subst q2
              exact hs (z.2 hk)
            · obtain ⟨u, u1, u2, u3⟩ := s3 k (by omega) k2
              rw [u3, nI_clamp (by omega), nb u u1] at z
              exact absurd z.1 (by decide)
        · obtain ⟨_, u, u1, u2, u3, u4⟩ := s4 hm
          rw [u3, nI_clamp (by omega)]
          exact u4 (fun k => bi_L (ND c) k = true) (fun k k1 k2 hk => (((Lv hf).2 k k1 k2).mp hk).1) (Pn hf (by omega))
        · rcases F with ⟨e1, F1⟩ | ⟨g, g1, g2, g3, g4, g5, g6, g7⟩
          · refine Or.inl ⟨e1, fun k k1 k2 k3 k4 => ?_⟩
            have := D.1 k k4
            exact F1 k k1 this.2 k3 k4
          · refine Or.inr ⟨g, g1, by omega, g3, g4, g5, g6, fun k k1 k2 k3 k4 => ?_⟩
            have := D.1 k k4
            exact g7 k k1 this.2 k3 k4
end
end
section
theorem xr_D_up {K A P T T' TH TH' CB CB' : Nat → Int32} {ND ND' : Nat → Int64} {c c' f n : Nat} (F : xr_fr c' ND ND' T T' TH TH' CB CB') (hc : c < c') (D : xr_D K A P (ND c) (T c) TH CB c f n) : xr_D K A P (ND' c) (T' c) TH' CB' c f n := by
  unfold xr_D
  rw [(F.1 c hc).1, (F.1 c hc).2]
  refine ⟨D.1, fun p hp => ?_, D.2.2.1, fun v hv => ?_⟩
  · obtain ⟨p8, k, a, b, e, g⟩ := D.2.1 p hp
    exact ⟨p8, k, a, b, e, by rw [F.2.1 _ (by omega)]; exact g⟩
  · rw [F.2.2 _ (by omega)]; exact D.2.2.2 v hv
/-- the clauses of a row, as they are made -/
def xr_Sq (K U S : Nat → Int32) (f e i : Nat) (ch : Nat → Nat → Bool) (L : Nat → Nat → Prop) (m : Nat) : Prop :=
  (∀ j, j < i → lc_Lv K U S (ch j) (L j) f e ∧ ∀ n, f ≤ n → n < e → ch j n = true → K n = 3 ∧ L j n) ∧ (∀ n, f ≤ n → n < e → ch 0 n = false) ∧
  (∀ j, j + 1 < m → ∃ g, f ≤ g ∧ g < e ∧ K g = 3 ∧ L j g ∧ ch j g = false ∧ (∀ n, g < n → n < e → K n = 3 → L j n → ch j n = true) ∧ ∀ n, f ≤ n → n < e → ch (j + 1) n = ((decide (n < g) && ch j n) || decide (n = g)))
def xr_Cs (K A P : Nat → Int32) (f e c0 r i : Nat) (CR : Nat → Int32) (ND : Nat → Int64) (T TH CB : Nat → Int32) : Prop := ∀ j, j < i → CR (c0 + j) = nI r ∧ xr_D K A P (ND (c0 + j)) (T (c0 + j)) TH CB (c0 + j) f e
section
variable {tt rl rt cc rc nc hlc clc sc qt : Nat} {ph ro misF lr : Int32} {solM livM : Int64} {a_ctorType a_ctorFirst a_ctorSecond a_typeSize a_typeCtors a_rowFirst a_rowSize a_guardKind a_guardA a_guardB a_clauseFirst a_nodeKind a_nodeArg a_nodePos a_nodeRow a_altOf a_altSide a_nodeNew a_after a_holePos a_holeType a_holeOwner a_holeSide a_clauseRow a_clauseTests a_testHead a_clauseBind a_litCount a_lits a_freshInt a_stateOpen a_statePos a_stateNext a_child a_bucketHead a_pin a_marked a_queue a_val a_valType a_bound : Nat → Int32} {a_clauseNodes a_stateMask : Nat → Int64}
variable {U : Nat → Int32}
theorem xw_addClause {post : Int32 → SX → Prop} {ch : Int32} {f d r : Nat} (hc : clc < 64) (h48 : f + d ≤ 48) (h16 : d ≤ 16) (h31 : bt ch 31 = false) (W : tw_par a_nodeKind U a_altOf f (f + d)) (WS : ∀ n, f ≤ n → n < f + d → ∃ m, a_after n = nI m ∧ tw_skip U f (f + d) n m) (WN : ∀ n, f ≤ n → tw_next U f (f + d) n)
    (hP : ∀ n, f ≤ n → n < f + d → ∃ p, a_nodePos n = nI p ∧ p ≤ 7) (hB : ∀ n, f ≤ n → n < f + d → a_nodeKind n = 4 → ∃ v, v < 4 ∧ a_nodeArg n = nI v) (hd : 0 < d)
    (h : ∀ x ND T TH CB, xr_D a_nodeKind a_nodeArg a_nodePos (ND clc) (T clc) TH CB clc f (f + d) → lc_Lv a_nodeKind U a_altSide (fun k => bt ch (k - f)) (fun k => bi_L (ND clc) k = true) f (f + d) → xr_nx a_nodeKind f (f + d) ch (fun k => bi_L (ND clc) k = true) x → xr_fr clc a_clauseNodes ND a_clauseTests T a_testHead TH a_clauseBind CB → post x (nI tt, nI rl, nI rt, ph, nI cc, nI rc, ro, nI nc, nI hlc, nI (clc + 1), nI sc, solM, livM, misF, nI qt, lr, a_ctorType, a_ctorFirst, a_ctorSecond, a_typeSize, a_typeCtors, a_rowFirst, a_rowSize, a_guardKind, a_guardA, a_guardB, a_clauseFirst, a_nodeKind, a_nodeArg, a_nodePos, a_nodeRow, a_altOf, a_altSide, a_nodeNew, a_after, a_holePos, a_holeType, a_holeOwner, a_holeSide, upd a_clauseRow clc (nI r), ND, T, TH, CB, a_litCount, a_lits, a_freshInt, a_stateMask, a_stateOpen, a_statePos, a_stateNext, a_child, a_bucketHead, a_pin, a_marked, a_queue, a_val, a_valType, a_bound)) : wpX_addClause post (nI tt, nI rl, nI rt, ph, nI cc, nI rc, ro, nI nc, nI hlc, nI clc, nI sc, solM, livM, misF, nI qt, lr, a_ctorType, a_ctorFirst, a_ctorSecond, a_typeSize, a_typeCtors, a_rowFirst, a_rowSize, a_guardKind, a_guardA, a_guardB, a_clauseFirst, a_nodeKind, a_nodeArg, a_nodePos, a_nodeRow, a_altOf, a_altSide, a_nodeNew, a_after, a_holePos, a_holeType, a_holeOwner, a_holeSide, a_clauseRow, a_clauseNodes, a_clauseTests, a_testHead, a_clauseBind, a_litCount, a_lits, a_freshInt, a_stateMask, a_stateOpen, a_statePos, a_stateNext, a_child, a_bucketHead, a_pin, a_marked, a_queue, a_val, a_valType, a_bound) (nI r) (nI f) (nI (f + d)) ch := by
  refine br_t (nI_lt (a := clc) (b := 64) hc (by omega)) (xw_start hc (fun TH CB t1 t2 b1 b2 => ⟨d + 1, ?_⟩))
  refine xw_add31 (U := U) (ND0 := a_clauseNodes) (T0 := a_clauseTests) (TH0 := a_testHead) (CB0 := a_clauseBind) hc h48 h16 h31 W WS WN hP hB h d f 0 (-1) _ _ TH CB (by omega) (by omega) (by omega) (by omega) ⟨fun k hk => ?_, fun p hp => ?_, fun k hk => ?_, fun v hv => ?_⟩ (fun z => by omega) (fun z => by omega) (Or.inl ⟨rfl, fun k k1 k2 => by omega⟩) ⟨fun j hj => ⟨pk_uLn (by omega), pk_un (by omega)⟩, t2, b2⟩ hd
  · rw [pk_uLs, bi_0] at hk; exact absurd hk (by decide)
  · rw [pk_us, b_0] at hp; exact absurd hp (by decide)
  · rw [pk_uLs, bi_0] at hk; exact absurd hk (by decide)
  · rw [Nat.sub_self]; exact b1 v hv
theorem xw_exp28 {post : SX → Prop} {f d r c0 p0 : Nat} {t0 : Int32} (Tr : tr_Op cc a_nodeKind a_nodeArg a_nodePos U a_altOf a_altSide a_ctorType a_ctorFirst a_ctorSecond d f [(p0, t0, -1, -1, 0)] []) (hc0 : 5 * c0 ≤ 6 * f) (h48 : f + d ≤ 48) (h16 : d ≤ 16) (W : tw_par a_nodeKind U a_altOf f (f + d)) (WS : ∀ n, f ≤ n → n < f + d → ∃ m, a_after n = nI m ∧ tw_skip U f (f + d) n m) (WN : ∀ n, f ≤ n → tw_next U f (f + d) n)
    (hP : ∀ n, f ≤ n → n < f + d → ∃ p, a_nodePos n = nI p ∧ p ≤ 7) (hB : ∀ n, f ≤ n → n < f + d → a_nodeKind n = 4 → ∃ v, v < 4 ∧ a_nodeArg n = nI v) (hd : 0 < d)
    (h : ∀ k ch CR ND T TH CB, lc_Seq a_nodeKind U a_altSide f (f + d) k ch (fun i n => bi_L (ND (c0 + i)) n = true) → k ≤ lc_G d → xr_Cs a_nodeKind a_nodeArg a_nodePos f (f + d) c0 r k CR ND T TH CB → (∀ j, j < c0 → CR j = a_clauseRow j) → xr_fr c0 a_clauseNodes ND a_clauseTests T a_testHead TH a_clauseBind CB → post (nI tt, nI rl, nI rt, ph, nI cc, nI rc, ro, nI nc, nI hlc, nI (c0 + k), nI sc, solM, livM, misF, nI qt, lr, a_ctorType, a_ctorFirst, a_ctorSecond, a_typeSize, a_typeCtors, a_rowFirst, a_rowSize, a_guardKind, a_guardA, a_guardB, a_clauseFirst, a_nodeKind, a_nodeArg, a_nodePos, a_nodeRow, a_altOf, a_altSide, a_nodeNew, a_after, a_holePos, a_holeType, a_holeOwner, a_holeSide, CR, ND, T, TH, CB, a_litCount, a_lits, a_freshInt, a_stateMask, a_stateOpen, a_statePos, a_stateNext, a_child, a_bucketHead, a_pin, a_marked, a_queue, a_val, a_valType, a_bound)) :
    ∀ dd i x4 ch CR ND T TH CB, dd + i = 64 → xr_Sq a_nodeKind U a_altSide f (f + d) i ch (fun i n => bi_L (ND (c0 + i)) n = true) (if x4 = -1 then i else i + 1) → xr_Cs a_nodeKind a_nodeArg a_nodePos f (f + d) c0 r i CR ND T TH CB → (∀ j, j < c0 → CR j = a_clauseRow j) → xr_fr c0 a_clauseNodes ND a_clauseTests T a_testHead TH a_clauseBind CB →
      ((x4 = -1 ∧ 0 < i ∧ ∀ n, f ≤ n → n < f + d → a_nodeKind n = 3 → bi_L (ND (c0 + (i - 1))) n = true → ch (i - 1) n = true) ∨ (¬ x4 < 0 ∧ bt x4 31 = false ∧ ∀ k, f ≤ k → k < f + d → ch i k = bt x4 (k - f))) →
      wX_expandRow_28 post (nI r) (nI f) (nI (f + d)) (dd + 1) x4 (nI i) (nI tt) (nI rl) (nI rt) ph (nI cc) (nI rc) ro (nI nc) (nI hlc) (nI (c0 + i)) (nI sc) solM livM misF (nI qt) lr a_ctorType a_ctorFirst a_ctorSecond a_typeSize a_typeCtors a_rowFirst a_rowSize a_guardKind a_guardA a_guardB a_clauseFirst a_nodeKind a_nodeArg a_nodePos a_nodeRow a_altOf a_altSide a_nodeNew a_after a_holePos a_holeType a_holeOwner a_holeSide CR ND T TH CB a_litCount a_lits a_freshInt a_stateMask a_stateOpen a_statePos a_stateNext a_child a_bucketHead a_pin a_marked a_queue a_val a_valType a_bound := by
  have g6 := lc_G6 d (by omega)
  have cnt : ∀ i ch L m, xr_Sq a_nodeKind U a_altSide f (f + d) i ch L m → i ≤ m → i ≤ lc_G d := by
    intro i ch L m hS him
    refine lc_count (ch := ch) (L := L) Tr (by omega) h16 (fun j hj => (hS.1 j hj).1) (fun j hj => ?_)
    obtain ⟨g, a1, a2, a3, a4, a5, a6, a7⟩ := hS.2.2 j (by omega)
    exact ⟨g, a1, a2, a3, a4, a5, a7⟩
  intro dd
  induction dd with
  | zero =>
    intro i x4 ch CR ND T TH CB h1 hS
    have := cnt i ch _ _ hS (by split <;> omega)
    omega
  | succ dd ih =>
    intro i x4 ch CR ND T TH CB h1 hS hCs hCR hFr hx
    have hi := cnt i ch _ _ hS (by split <;> omega)
    refine br_f (nI_ge (a := i) (b := 64) (by omega) (by omega)) ?_
    rcases hx with ⟨rfl, i0, hlast⟩ | ⟨x0, x31, hx⟩
    · rw [if_pos rfl] at hS
      exact br_t (by decide) (h i ch CR ND T TH CB ⟨hS.1, hS.2.1, hS.2.2, i0, hlast⟩ hi hCs hCR hFr)
    · have xm : ¬ x4 = -1 := fun z => x0 (by rw [z]; decide)
      rw [if_neg xm] at hS
      refine br_f x0 (xw_addClause (U := U) (by omega) h48 h16 x31 W WS WN hP hB hd (fun x ND' T' TH' CB' D' Lv' nx' Fr' => nm_r (nI_1 i) ?_))
      -- the choice of clause i
      have chLv : lc_Lv a_nodeKind U a_altSide (ch i) (fun k => bi_L (ND' (c0 + i)) k = true) f (f + d) := by
        refine ⟨Lv'.1, fun k k1 k2 => ?_⟩
        obtain ⟨u, u1, u2, u3, _⟩ := W.2 k k1 k2
        have := Lv'.2 k k1 k2
        rw [u3, nI_clamp (by omega)] at this ⊢
        rw [hx u u1 (by omega)]
        exact this
      have old : ∀ j, j < i → ∀ n, bi_L (ND' (c0 + j)) n = bi_L (ND (c0 + j)) n := fun j hj n => by rw [(Fr'.1 (c0 + j) (by omega)).1]
      have red : ∀ n, f ≤ n → n < f + d → ch i n = true → a_nodeKind n = 3 ∧ bi_L (ND' (c0 + i)) n = true := by
        intro n n1 n2 hn
        cases i with
        | zero => rw [hS.2.1 n n1 n2] at hn; exact absurd hn (by decide)
        | succ i =>
          obtain ⟨g, g1, g2, g3, g4, g5, g6', g7⟩ := hS.2.2 i (by omega)
          have ag := lc_agree (g := g) Tr (by omega) chLv (hS.1 i (by omega)).1 (fun k a b => by
            rw [g7 k a (by omega)]
            have z1 : k ≠ g := by omega
            simp [b, z1])
          have g7' := g7 n n1 n2
          rw [hn] at g7'
          by_cases q : n = g
          · subst q; exact ⟨g3, (ag n n1 n2 (Nat.le_refl _)).mpr g4⟩
          · by_cases q2 : n < g
            · have : ch i n = true := by simpa [q, q2] using g7'.symm
              have r1 := (hS.1 i (by omega)).2 n n1 n2 this
              exact ⟨r1.1, (ag n n1 n2 (by omega)).mpr r1.2⟩
            · simp [q, q2] at g7'
      have base : ∀ ch' : Nat → Nat → Bool, (∀ j, j ≤ i → ch' j = ch j) → (∀ j, j < i + 1 → lc_Lv a_nodeKind U a_altSide (ch' j) (fun n => bi_L (ND' (c0 + j)) n = true) f (f + d) ∧ ∀ n, f ≤ n → n < f + d → ch' j n = true → a_nodeKind n = 3 ∧ bi_L (ND' (c0 + j)) n = true) := by
        intro ch' hch j hj
        rw [hch j (by omega)]
        by_cases q : j = i
        · subst q; exact ⟨chLv, red⟩
        · have := hS.1 j (by omega)
          have e : (fun n => bi_L (ND' (c0 + j)) n = true) = (fun n => bi_L (ND (c0 + j)) n = true) := by funext n; rw [old j (by omega)]
          dsimp only at this
          rw [e]
          refine ⟨this.1, fun n n1 n2 hn => ?_⟩
          have := this.2 n n1 n2 hn
          rw [old j (by omega)]; exact this
      have nexts : ∀ ch' : Nat → Nat → Bool, (∀ j, j ≤ i → ch' j = ch j) → ∀ j, j + 1 < i + 1 → ∃ g, f ≤ g ∧ g < f + d ∧ a_nodeKind g = 3 ∧ bi_L (ND' (c0 + j)) g = true ∧ ch' j g = false ∧ (∀ n, g < n → n < f + d → a_nodeKind n = 3 → bi_L (ND' (c0 + j)) n = true → ch' j n = true) ∧ ∀ n, f ≤ n → n < f + d → ch' (j + 1) n = ((decide (n < g) && ch' j n) || decide (n = g)) := by
        intro ch' hch j hj
        obtain ⟨g, g1, g2, g3, g4, g5, g6', g7⟩ := hS.2.2 j (by omega)
        rw [hch j (by omega), hch (j + 1) (by omega)]
        exact ⟨g, g1, g2, g3, by rw [old j (by omega)]; exact g4, g5, fun n a b c e => g6' n a b c ((old j (by omega) n).symm.trans e), g7⟩
      have Cs' : xr_Cs a_nodeKind a_nodeArg a_nodePos f (f + d) c0 r (i + 1) (upd CR (c0 + i) (nI r)) ND' T' TH' CB' := by
        intro j hj
        by_cases q : j = i
        · subst q; exact ⟨pk_us, D'⟩
        · exact ⟨by rw [pk_un (by omega)]; exact (hCs j (by omega)).1, xr_D_up Fr' (by omega) (hCs j (by omega)).2⟩
      have CR' : ∀ j, j < c0 → upd CR (c0 + i) (nI r) j = a_clauseRow j := fun j hj => by rw [pk_un (by omega)]; exact hCR j hj
      have FrT : xr_fr c0 a_clauseNodes ND' a_clauseTests T' a_testHead TH' a_clauseBind CB' :=
        ⟨fun j hj => ⟨((Fr'.1 j (by omega)).1).trans (hFr.1 j hj).1, ((Fr'.1 j (by omega)).2).trans (hFr.1 j hj).2⟩, fun j hj => (Fr'.2.1 j (by omega)).trans (hFr.2.1 j hj), fun j hj => (Fr'.2.2 j (by omega)).trans (hFr.2.2 j hj)⟩
      rcases nx' with ⟨rfl, hl⟩ | ⟨y0, g, g1, g2, g3, g4, g5, g6', g7⟩
      · refine ih (i + 1) (-1) ch _ ND' T' TH' CB' (by omega) ?_ Cs' CR' FrT (Or.inl ⟨rfl, by omega, fun n n1 n2 n3 n4 => ?_⟩)
        · rw [if_pos rfl]
          exact ⟨base ch (fun _ _ => rfl), hS.2.1, nexts ch (fun _ _ => rfl)⟩
        · rw [show i + 1 - 1 = i by omega] at n4 ⊢
          rw [hx n n1 n2]
          exact hl n n1 n2 n3 n4
      · refine ih (i + 1) x (fun j => if j = i + 1 then fun k => bt x (k - f) else ch j) _ ND' T' TH' CB' (by omega) ?_ Cs' CR' FrT (Or.inr ⟨y0, ?_, fun k k1 k2 => by rw [if_pos rfl]⟩)
        · rw [if_neg (fun z => y0 (by rw [z]; decide))]
          have hch : ∀ j, j ≤ i → (fun j => if j = i + 1 then fun k => bt x (k - f) else ch j) j = ch j := fun j hj => if_neg (by omega)
          refine ⟨base _ hch, ?_, fun j hj => ?_⟩
          · rw [hch 0 (by omega)]; exact hS.2.1
          · by_cases q : j + 1 < i + 1
            · exact nexts _ hch j q
            · have : j = i := by omega
              subst this
              refine ⟨g, g1, g2, g4, g5, ?_, ?_, ?_⟩
              · rw [hch j (by omega), hx g g1 g2]; exact g6'
              · intro n a b c e
                rw [hch j (by omega), hx n (by omega) b]
                exact g7 n a b c e
              · intro n n1 n2
                rw [hch j (by omega), hx n n1 n2]
                dsimp only
                rw [if_pos rfl, g3 (n - f) (by omega)]
                have z1 : (n - f < g - f) ↔ (n < g) := by omega
                have z2 : (n - f = g - f) ↔ (n = g) := by omega
                simp only [z1, z2]
        · rw [g3 31 (by omega)]
          have z1 : ¬ 31 < g - f := by omega
          have z2 : ¬ 31 = g - f := by omega
          simp [z1, z2]
/-- expandRow -/
theorem xw_expandRow {post : SX → Prop} {f d r p0 : Nat} {t0 : Int32} (hr : r < 8) (hcc : cc ≤ 12) (hf : a_rowFirst r = nI f) (hs : a_rowSize r = nI d) (Tr : tr_Op cc a_nodeKind a_nodeArg a_nodePos U a_altOf a_altSide a_ctorType a_ctorFirst a_ctorSecond d f [(p0, t0, -1, -1, 0)] []) (p1 : 1 ≤ p0) (p7 : p0 ≤ 7) (hc0 : 5 * clc ≤ 6 * f) (h48 : f + d ≤ 48) (h16 : d ≤ 16)
    (h : ∀ k ch AF CR ND T TH CB, lc_Seq a_nodeKind U a_altSide f (f + d) k ch (fun i n => bi_L (ND (clc + i)) n = true) → k ≤ lc_G d → xr_Cs a_nodeKind a_nodeArg a_nodePos f (f + d) clc r k CR ND T TH CB → (∀ j, j < clc → CR j = a_clauseRow j) → xr_fr clc a_clauseNodes ND a_clauseTests T a_testHead TH a_clauseBind CB → post (nI tt, nI rl, nI rt, ph, nI cc, nI rc, ro, nI nc, nI hlc, nI (clc + k), nI sc, solM, livM, misF, nI qt, lr, a_ctorType, a_ctorFirst, a_ctorSecond, a_typeSize, a_typeCtors, a_rowFirst, a_rowSize, a_guardKind, a_guardA, a_guardB, a_clauseFirst, a_nodeKind, a_nodeArg, a_nodePos, a_nodeRow, a_altOf, a_altSide, a_nodeNew, AF, a_holePos, a_holeType, a_holeOwner, a_holeSide, CR, ND, T, TH, CB, a_litCount, a_lits, a_freshInt, a_stateMask, a_stateOpen, a_statePos, a_stateNext, a_child, a_bucketHead, a_pin, a_marked, a_queue, a_val, a_valType, a_bound)) : wpX_expandRow post (nI tt, nI rl, nI rt, ph, nI cc, nI rc, ro, nI nc, nI hlc, nI clc, nI sc, solM, livM, misF, nI qt, lr, a_ctorType, a_ctorFirst, a_ctorSecond, a_typeSize, a_typeCtors, a_rowFirst, a_rowSize, a_guardKind, a_guardA, a_guardB, a_clauseFirst, a_nodeKind, a_nodeArg, a_nodePos, a_nodeRow, a_altOf, a_altSide, a_nodeNew, a_after, a_holePos, a_holeType, a_holeOwner, a_holeSide, a_clauseRow, a_clauseNodes, a_clauseTests, a_testHead, a_clauseBind, a_litCount, a_lits, a_freshInt, a_stateMask, a_stateOpen, a_statePos, a_stateNext, a_child, a_bucketHead, a_pin, a_marked, a_queue, a_val, a_valType, a_bound) (nI r) := by
  have e : (nI r).toNatClampNeg = r := nI_clamp (by omega)
  have w : vp_in (nI r) 8 := vp_in_nI hr (by omega)
  have hlow : tr_low [((p0, t0, -1, -1, 0) : tr_H)] := by
    intro g hg; simp at hg; rw [hg]; exact ⟨p1, p7⟩
  refine ⟨w, nm_r (e' := nI f) (by rw [e]; exact hf) ⟨w, nm_r (e' := nI (f + d)) (by rw [e, hs, nI_add]) (xw_link (U := U) hcc Tr p1 p7 h48 (fun AF hAF _ => ⟨65, ?_⟩))⟩⟩
  refine xw_exp28 (U := U) (c0 := clc) Tr hc0 h48 h16 (tw_par_of Tr) (fun n n1 n2 => ?_) (fun n n1 => tw_next_of Tr p1 p7 (by omega) n1) (fun n n1 n2 => ?_) (fun n n1 n2 k4 => ?_) (tr_pos Tr) (fun k ch CR ND T TH CB => h k ch AF CR ND T TH CB) 64 0 0 (fun _ _ => false) a_clauseRow a_clauseNodes a_clauseTests a_testHead a_clauseBind (by omega) ?_ (fun j hj => by omega) (fun _ _ => rfl) ⟨fun _ _ => ⟨rfl, rfl⟩, fun _ _ => rfl, fun _ _ => rfl⟩ (Or.inr ⟨by decide, b_0 _, fun k _ _ => (b_0 _).symm⟩)
  · obtain ⟨dk, hk, k1, k7, Hk, hle⟩ := tr_sub2 _ _ _ hlow Tr n n1 n2
    exact ⟨n + dk, hAF n n1 n1 n2 dk hk k7 Hk hle, tw_skip_of Tr p1 p7 (by omega) n1 n2 Hk k7⟩
  · obtain ⟨q, q1, q2, q3, _⟩ := tr_where _ _ _ Tr p1 p7 n n1 n2
    exact ⟨q, q1, q3⟩
  · obtain ⟨dk, hk, k1, k7, Hk, hle⟩ := tr_sub2 _ _ _ hlow Tr n n1 n2
    exact (tr_cases Hk).1.2.2.2.2.2.2.2 k4
  · rw [if_neg (by decide)]
    exact ⟨fun j hj => by omega, fun _ _ _ => rfl, fun j hj => by omega⟩
end
end
section
section
variable {cc rt : Nat} {K A P U O S cT C1 C2 T TH CB CR : Nat → Int32} {ND : Nat → Int64}
def xo_okT (cc : Nat) (cT K A P : Nat → Int32) (nc : Nat) (p : Nat) (t x : Int32) : Prop := (t = 0 ∧ ∃ n, n < nc ∧ K n = 2 ∧ P n = nI p ∧ A n = x) ∨ (∃ k c, 1 ≤ k ∧ k ≤ 4 ∧ t = nI k ∧ c < cc ∧ x = nI c ∧ cT c = t)
def rf_okT (cc : Nat) (cT K A P : Nat → Int32) (f e : Nat) (p : Nat) (t x : Int32) : Prop := (t = 0 ∧ ∃ n, f ≤ n ∧ n < e ∧ K n = 2 ∧ P n = nI p ∧ A n = x) ∨ (∃ k c, 1 ≤ k ∧ k ≤ 4 ∧ t = nI k ∧ c < cc ∧ x = nI c ∧ cT c = t)
def xo_T (cc : Nat) (cT : Nat → Int32) : Prop := ∀ c, c < cc → ∃ k, 1 ≤ k ∧ k ≤ 4 ∧ cT c = nI k
def rf_ok (cc rt : Nat) (K A P U cT C1 C2 T TH CB : Nat → Int32) (ND : Nat → Int64) (f d c0 c1 : Nat) : Prop :=
  (∀ c, c0 ≤ c → c < c1 → ∀ n, bi_L (ND c) n = true → f ≤ n ∧ n < f + d) ∧
  (∀ c, c0 ≤ c → c < c1 → ∀ p, 1 ≤ p → p ≤ 7 → xc_t T c p = true → (2 ≤ p → xc_t T c (p / 2) = true) ∧ rf_okT cc cT K A P f (f + d) p (gh_ty (nI rt) (xc_f cc C1 C2) (xc_h TH c) p) (xc_h TH c p)) ∧
  (∀ c, c0 ≤ c → c < c1 → ∀ v, v < 4 → CB (c * 4 + v) = xr_bnd K A P (bi_L (ND c)) f d v) ∧
  (∀ c, c0 ≤ c → c < c1 → ∀ n, bi_L (ND c) n = true → ∃ p, 1 ≤ p ∧ p ≤ 7 ∧ P n = nI p ∧ (2 ≤ p → xc_t T c (p / 2) = true) ∧ gh_ty (nI rt) (xc_f cc C1 C2) (xc_h TH c) p ≠ -1) ∧
  (∀ v H Q, lc_Hit K A P U v f (f + d) H → lc_Part K U f (f + d) H Q → (H f ↔ ∃ c, c0 ≤ c ∧ c < c1 ∧ gh_Mt (xc_t T) (xc_h TH) v c) ∧ ∀ c, c0 ≤ c → c < c1 → gh_Mt (xc_t T) (xc_h TH) v c → (∀ c', c0 ≤ c' → c' < c → ¬ gh_Mt (xc_t T) (xc_h TH) v c') → ∀ n, f ≤ n → n < f + d → (Q n ↔ bi_L (ND c) n = true))
theorem rf_uniq {f d c : Nat} {ch : Nat → Bool} (Tr : tr_Op cc K A P U O S cT C1 C2 d f [(1, nI rt, -1, -1, 0)] []) (hb : f + d < 2 ^ 31) (hL : lc_Lv K U S ch (fun n => bi_L (ND c) n = true) f (f + d)) (Dc : xr_D K A P (ND c) (T c) TH CB c f (f + d)) {k p : Nat} (hk : bi_L (ND c) k = true) (ht : K k = 1 ∨ K k = 2) (hp : P k = nI p) (p7 : p ≤ 7) : xc_t T c p = true ∧ xc_h TH c p = A k := by
  have h1 := Dc.2.2.1 k hk ht p hp (by omega)
  obtain ⟨_, k', a1, a2, a3, a4⟩ := Dc.2.1 p h1
  have r1 := Dc.1 k hk
  have r2 := Dc.1 k' a1
  have e : k = k' := lc_uniq hL hb d f _ Tr (Nat.le_refl _) (Nat.le_refl _) (Nat.le_refl _) (by show 1 ≤ 7; omega) k k' r1.1 r1.2 r2.1 r2.2 hk a1 ht a2 (hp.trans a3.symm)
  exact ⟨h1, by rw [e]; exact a4⟩
theorem rf_mt {f d c : Nat} {ch : Nat → Bool} (Tr : tr_Op cc K A P U O S cT C1 C2 d f [(1, nI rt, -1, -1, 0)] []) (hb : f + d < 2 ^ 31) (hL : lc_Lv K U S ch (fun n => bi_L (ND c) n = true) f (f + d)) (Dc : xr_D K A P (ND c) (T c) TH CB c f (f + d)) (v : Nat → Int32) : gh_Mt (xc_t T) (xc_h TH) v c ↔ lc_All K A P v f (f + d) (fun n => bi_L (ND c) n = true) := by
  constructor
  · intro hm n n1 n2 hn ht
    obtain ⟨q, q1, q2, q3, _⟩ := tr_where _ _ _ Tr (Nat.le_refl _) (by show 1 ≤ 7; omega) n n1 n2
    obtain ⟨x1, x2⟩ := rf_uniq Tr hb hL Dc hn ht q1 q3
    rw [q1, nI_clamp (by omega), hm q q2 q3 x1, x2]
  · intro hA p p1 p7 ht
    obtain ⟨_, k, a1, a2, a3, a4⟩ := Dc.2.1 p ht
    have r := Dc.1 k a1
    have := hA k r.1 r.2 a1 a2
    rw [a3, nI_clamp (by omega)] at this
    rw [this]
    exact a4.symm
theorem rf_ty {f d c : Nat} {ch : Nat → Bool} (hrt : rt ≤ 4) (hcc : cc ≤ 12) (hT : xo_T cc cT) (Tr : tr_Op cc K A P U O S cT C1 C2 d f [(1, nI rt, -1, -1, 0)] []) (hb : f + d < 2 ^ 31) (hL : lc_Lv K U S ch (fun n => bi_L (ND c) n = true) f (f + d)) (Dc : xr_D K A P (ND c) (T c) TH CB c f (f + d)) :
    ∃ hl : Nat → tr_H, ∀ k, f ≤ k → k < f + d → tr_ok cc K A P U O S cT k (hl k) ∧ (bi_L (ND c) k = true → 1 ≤ (hl k).1 ∧ (hl k).1 ≤ 7 ∧ gh_ty (nI rt) (xc_f cc C1 C2) (xc_h TH c) (hl k).1 = (hl k).2.1 ∧ (2 ≤ (hl k).1 → xc_t T c ((hl k).1 / 2) = true) ∧ (hl k).2.1 ≠ -1) := by
  obtain ⟨hl, hh⟩ := tr_holes _ _ _ _ Tr
  refine ⟨hl, fun k => ?_⟩
  induction k using Nat.strongRecOn with
  | _ k ih =>
    intro k1 k2
    obtain ⟨ok, hk⟩ := hh k k1 k2
    refine ⟨ok, fun hb' => ?_⟩
    rcases hk with hk | ⟨u, u1, u2, u3⟩
    · simp at hk
      rw [hk]
      refine ⟨Nat.le_refl _, by show 1 ≤ 7; omega, rfl, fun z => absurd z (by show ¬ 2 ≤ 1; omega), fun z => ?_⟩
      have z' : nI rt = -1 := z
      have := congrArg Int32.toInt z'
      rw [nI_toInt (by omega), show (-1 : Int32).toInt = -1 from by decide] at this
      omega
    · have eU : U k = nI u := ok.2.1.trans (tr_kidup u3)
      have lu : bi_L (ND c) u = true := by
        have := ((hL.2 k (by omega) k2).mp hb').1
        rw [eU, nI_clamp (by omega)] at this
        exact this
      obtain ⟨oku, hu⟩ := ih u u2 u1 (by omega)
      obtain ⟨x1, x2, x3, x4, x5⟩ := hu lu
      rcases tr_kidpos u3 with ⟨e1, e2, _⟩ | ⟨e1, e2, e3, e4, e5⟩
      · rw [e1, e2]; exact ⟨x1, x2, x3, x4, x5⟩
      · obtain ⟨t1, t2⟩ := rf_uniq Tr hb hL Dc lu (Or.inl e1) oku.1 x2
        obtain ⟨cx, c1, c2, c3⟩ := oku.2.2.2.2.2.1 e1
        obtain ⟨kk, kk1, kk4, ekk⟩ := hT cx c1
        refine ⟨by omega, by omega, ?_, fun _ => by rw [e3]; exact t1, e5⟩
        rw [gh_ty_step (by omega) (by omega), e3, x3, t2]
        unfold xc_f
        rw [if_neg, e4, c2, nI_clamp (by omega)]
        rw [← c3, ekk, c2]
        rintro (z | z | z)
        · exact absurd z (nI_nlt (a := kk) (b := 1) kk1 (by omega))
        · exact absurd z (nI_pos (by omega))
        · exact absurd z (nI_ge c1 (by omega))
theorem rf_of {f d c0 k r : Nat} {ch : Nat → Nat → Bool} (hrt : rt ≤ 4) (hcc : cc ≤ 12) (hT : xo_T cc cT) (Tr : tr_Op cc K A P U O S cT C1 C2 d f [(1, nI rt, -1, -1, 0)] []) (hb : f + d < 2 ^ 31) (hS : lc_Seq K U S f (f + d) k ch (fun i n => bi_L (ND (c0 + i)) n = true)) (hC : xr_Cs K A P f (f + d) c0 r k CR ND T TH CB) : rf_ok cc rt K A P U cT C1 C2 T TH CB ND f d c0 (c0 + k) := by
  have get : ∀ c, c0 ≤ c → c < c0 + k → ∃ i, i < k ∧ c = c0 + i := fun c a b => ⟨c - c0, by omega, by omega⟩
  refine ⟨fun c a b => ?_, fun c a b p p1 p7 ht => ?_, fun c a b v hv => ?_, fun c a b n hn => ?_, fun v H Q hH hQ => ?_⟩
  · obtain ⟨i, hi, rfl⟩ := get c a b
    exact (hC i hi).2.1
  · obtain ⟨i, hi, rfl⟩ := get c a b
    obtain ⟨hl, hh⟩ := rf_ty (TH := TH) (T := T) (CB := CB) hrt hcc hT Tr hb (hS.1 i hi).1 (hC i hi).2
    obtain ⟨_, n, a1, a2, a3, a4⟩ := (hC i hi).2.2.1 p ht
    have rr := (hC i hi).2.1 n a1
    obtain ⟨ok, hn⟩ := hh n rr.1 rr.2
    obtain ⟨x1, x2, x3, x4, _⟩ := hn a1
    have ep : (hl n).1 = p := by
      have := ok.1
      rw [a3] at this
      exact ((nI_eq (by omega) (by omega)).mp this).symm
    rw [ep] at x3 x4
    refine ⟨x4, ?_⟩
    rw [x3, show xc_h TH (c0 + i) p = A n from a4]
    rcases a2 with a2 | a2
    · obtain ⟨cx, c1, c2, c3⟩ := ok.2.2.2.2.2.1 a2
      obtain ⟨kk, kk1, kk4, ekk⟩ := hT cx c1
      exact Or.inr ⟨kk, cx, kk1, kk4, c3 ▸ ekk, c1, c2, c3⟩
    · exact Or.inl ⟨ok.2.2.2.2.2.2.1 a2, n, rr.1, rr.2, a2, a3, rfl⟩
  · obtain ⟨i, hi, rfl⟩ := get c a b
    have := (hC i hi).2.2.2.2 v hv
    rw [show f + d - f = d by omega] at this
    exact this
  · obtain ⟨i, hi, rfl⟩ := get c a b
    obtain ⟨hl, hh⟩ := rf_ty (TH := TH) (T := T) (CB := CB) hrt hcc hT Tr hb (hS.1 i hi).1 (hC i hi).2
    have rr := (hC i hi).2.1 n hn
    obtain ⟨ok, hn'⟩ := hh n rr.1 rr.2
    obtain ⟨x1, x2, x3, x4, x5⟩ := hn' hn
    exact ⟨(hl n).1, x1, x2, ok.1, x4, by rw [x3]; exact x5⟩
  · obtain ⟨p1, p2⟩ := lc_P2 Tr hb hS hH hQ
    have mt : ∀ i, i < k → (gh_Mt (xc_t T) (xc_h TH) v (c0 + i) ↔ lc_All K A P v f (f + d) (fun n => bi_L (ND (c0 + i)) n = true)) := fun i hi => rf_mt Tr hb (hS.1 i hi).1 (hC i hi).2 v
    refine ⟨?_, fun c a b hm hn n n1 n2 => ?_⟩
    · rw [p1]
      constructor
      · rintro ⟨i, hi, hA⟩; exact ⟨c0 + i, by omega, by omega, (mt i hi).mpr hA⟩
      · rintro ⟨c, a, b, hm⟩
        obtain ⟨i, hi, rfl⟩ := get c a b
        exact ⟨i, hi, (mt i hi).mp hm⟩
    · obtain ⟨i, hi, rfl⟩ := get c a b
      exact p2 i hi ((mt i hi).mp hm) (fun j hj hA => hn (c0 + j) (by omega) (by omega) ((mt j (by omega)).mpr hA)) n n1 n2
/-- row facts look only at the row's nodes and clauses -/
theorem rf_congr {K' A' P' U' T' TH' CB' : Nat → Int32} {ND' : Nat → Int64} {f d c0 c1 : Nat} (hn : ∀ n, f ≤ n → n < f + d → K' n = K n ∧ A' n = A n ∧ P' n = P n ∧ U' n = U n) (hc : ∀ c, c0 ≤ c → c < c1 → ND' c = ND c ∧ T' c = T c ∧ (∀ p, p < 8 → TH' (c * 8 + p) = TH (c * 8 + p)) ∧ ∀ v, v < 4 → CB' (c * 4 + v) = CB (c * 4 + v)) (hup : ∀ n, f < n → n < f + d → ∃ u, f ≤ u ∧ u < n ∧ U n = nI u) (hb : f + d < 2 ^ 31) (hz : 0 < d) (h : rf_ok cc rt K A P U cT C1 C2 T TH CB ND f d c0 c1) : rf_ok cc rt K' A' P' U' cT C1 C2 T' TH' CB' ND' f d c0 c1 := by
  obtain ⟨h1, h2, h3, h3b, h4⟩ := h
  have et : ∀ c, c0 ≤ c → c < c1 → ∀ p, xc_t T' c p = xc_t T c p := fun c a b p => by unfold xc_t; rw [(hc c a b).2.1]
  have eh : ∀ c, c0 ≤ c → c < c1 → ∀ p, p < 8 → xc_h TH' c p = xc_h TH c p := fun c a b p hp => (hc c a b).2.2.1 p hp
  have em : ∀ c, c0 ≤ c → c < c1 → ∀ v, gh_Mt (xc_t T') (xc_h TH') v c ↔ gh_Mt (xc_t T) (xc_h TH) v c := by
    intro c a b v
    constructor
    · intro z p p1 p7 ht; rw [z p p1 p7 (by rw [et c a b]; exact ht), eh c a b p (by omega)]
    · intro z p p1 p7 ht; rw [z p p1 p7 (by rw [← et c a b]; exact ht), eh c a b p (by omega)]
  have eb : ∀ (L : Nat → Bool) v j, j ≤ d → xr_bnd K' A' P' L f j v = xr_bnd K A P L f j v := by
    intro L v j
    induction j with
    | zero => intro _; rfl
    | succ j ih =>
      intro hj
      obtain ⟨e1, e2, e3, _⟩ := hn (f + j) (by omega) (by omega)
      rw [xr_bnd, xr_bnd, e1, e2, e3, ih (by omega)]
  refine ⟨fun c a b n hn' => ?_, fun c a b p p1 p7 ht => ?_, fun c a b v hv => ?_, fun c a b n hn' => ?_, fun v H Q hH hQ => ?_⟩
  · rw [(hc c a b).1] at hn'; exact h1 c a b n hn'
  · rw [et c a b] at ht
    obtain ⟨x1, x2⟩ := h2 c a b p p1 p7 ht
    refine ⟨fun z => by rw [et c a b]; exact x1 z, ?_⟩
    have ety : gh_ty (nI rt) (xc_f cc C1 C2) (xc_h TH' c) p = gh_ty (nI rt) (xc_f cc C1 C2) (xc_h TH c) p := gh_tyeq p1 p7 (fun a' a1 a2 _ => eh c a b a' (by omega))
    rw [ety, eh c a b p (by omega)]
    rcases x2 with ⟨y1, n, y0, y2, y3, y4, y5⟩ | y
    · obtain ⟨e1, e2, e3, _⟩ := hn n y0 y2
      exact Or.inl ⟨y1, n, y0, y2, e1.trans y3, e3.trans y4, e2.trans y5⟩
    · exact Or.inr y
  · rw [(hc c a b).2.2.2 v hv, (hc c a b).1, h3 c a b v hv, eb _ _ d (Nat.le_refl _)]
  · rw [(hc c a b).1] at hn'
    obtain ⟨p, p1, p7, p2, p3, p4⟩ := h3b c a b n hn'
    have rr := h1 c a b n hn'
    refine ⟨p, p1, p7, (hn n rr.1 rr.2).2.2.1.trans p2, fun z => by rw [et c a b]; exact p3 z, ?_⟩
    rw [gh_tyeq p1 p7 (w := xc_h TH c) (fun a' a1 a2 _ => eh c a b a' (by omega))]
    exact p4
  · have hH' : lc_Hit K A P U v f (f + d) H := by
      intro n n1 n2
      obtain ⟨e1, e2, e3, e4⟩ := hn n n1 n2
      have := hH n n1 n2
      rw [e1, e2, e3] at this
      rw [this]
      constructor
      · rintro (⟨z1, k, z2, z3, z4, z5⟩ | ⟨z1, z2, z3⟩)
        · exact Or.inl ⟨z1, k, z2, z3, by rw [← (hn k (by omega) z3).2.2.2]; exact z4, z5⟩
        · exact Or.inr ⟨z1, z2, fun k a b c => z3 k a b (by rw [(hn k (by omega) b).2.2.2]; exact c)⟩
      · rintro (⟨z1, k, z2, z3, z4, z5⟩ | ⟨z1, z2, z3⟩)
        · exact Or.inl ⟨z1, k, z2, z3, by rw [(hn k (by omega) z3).2.2.2]; exact z4, z5⟩
        · exact Or.inr ⟨z1, z2, fun k a b c => z3 k a b (by rw [← (hn k (by omega) b).2.2.2]; exact c)⟩
    have hQ' : lc_Part K U f (f + d) H Q := by
      refine ⟨hQ.1, fun n n1 n2 => ?_⟩
      have := hQ.2 n n1 n2
      rw [(hn n (by omega) n2).2.2.2] at this
      obtain ⟨u, u1, u2, u3⟩ := hup n n1 n2
      rw [u3, nI_clamp (by omega)] at this ⊢
      rw [(hn u u1 (by omega)).1] at this
      exact this
    obtain ⟨x1, x2⟩ := h4 v H Q hH' hQ'
    refine ⟨?_, fun c a b hm hn' n n1 n2 => ?_⟩
    · rw [x1]
      constructor
      · rintro ⟨c, a, b, m⟩; exact ⟨c, a, b, (em c a b v).mpr m⟩
      · rintro ⟨c, a, b, m⟩; exact ⟨c, a, b, (em c a b v).mp m⟩
    · rw [(hc c a b).1]
      exact x2 c a b ((em c a b v).mp hm) (fun c' a' b' m => hn' c' a' b' ((em c' a' (by omega) v).mpr m)) n n1 n2
end
end
section
/-! X: the candidates at type INT -/
def xl_cnt (NW P : Nat → Int32) (p : Nat) : Nat → Nat
  | 0 => 0
  | n + 1 => xl_cnt NW P p n + (if NW n ≠ 0 ∧ P n = nI p then 1 else 0)
theorem xl_cnt_mono {NW P : Nat → Int32} {p : Nat} : ∀ d n, xl_cnt NW P p n ≤ xl_cnt NW P p (n + d) := by
  intro d
  induction d with
  | zero => intro n; exact Nat.le_refl _
  | succ d ih => intro n; exact Nat.le_trans (ih n) (Nat.le_add_right _ _)
def xl_lit (K A P : Nat → Int32) (n p : Nat) (x : Int32) : Prop := ∃ n', n' < n ∧ K n' = 2 ∧ P n' = nI p ∧ A n' = x
def xl_new (K A P NW : Nat → Int32) (nc : Nat) : Prop := ∀ n, n < nc → (NW n ≠ 0 ↔ K n = 2 ∧ ¬ ∃ n', n' < n ∧ K n' = 2 ∧ P n' = P n ∧ A n' = A n)
def xl_lim (p : Nat) : Nat := if p ≤ 3 then 4 else 2
def xl_srt (LI : Nat → Int32) (p m : Nat) : Prop := ∀ i j, i < j → j < m → LI (p * 4 + i) < LI (p * 4 + j)
def xl_I (K A P NW : Nat → Int32) (n : Nat) (LC LI : Nat → Int32) : Prop := ∀ p, 1 ≤ p → p ≤ 7 → LC p = nI (xl_cnt NW P p n) ∧ xl_srt LI p (xl_cnt NW P p n) ∧ ∀ x, (∃ i, i < xl_cnt NW P p n ∧ LI (p * 4 + i) = x) ↔ xl_lit K A P n p x
def xl_sp (S : Int32 → Prop) (x : Int32) : Prop := ∃ j, j ≤ 4 ∧ x = nI j ∧ ¬ S (nI j) ∧ ∀ i, i < j → S (nI i)
def xl_OK (K A P NW : Nat → Int32) (nc : Nat) (LC LI FR : Nat → Int32) : Prop := xl_I K A P NW nc LC LI ∧ ∀ p, 1 ≤ p → p ≤ 7 → xl_sp (xl_lit K A P nc p) (FR p)
section
variable {tt rl rt cc rc nc hlc clc sc qt : Nat} {ph ro misF lr : Int32} {solM livM : Int64} {a_ctorType a_ctorFirst a_ctorSecond a_typeSize a_typeCtors a_rowFirst a_rowSize a_guardKind a_guardA a_guardB a_clauseFirst a_nodeKind a_nodeArg a_nodePos a_nodeRow a_altOf a_altSide a_nodeNew a_after a_holePos a_holeType a_holeOwner a_holeSide a_clauseRow a_clauseTests a_testHead a_clauseBind a_litCount a_lits a_freshInt a_stateOpen a_statePos a_stateNext a_child a_bucketHead a_pin a_marked a_queue a_val a_valType a_bound : Nat → Int32} {a_clauseNodes a_stateMask : Nat → Int64}
theorem xw_ins61 {post : SX → Prop} {p i m : Nat} {k : Int32} (p7 : p ≤ 7) (hi : i ≤ 3) (hm : a_litCount p = nI m) (h : post (nI tt, nI rl, nI rt, ph, nI cc, nI rc, ro, nI nc, nI hlc, nI clc, nI sc, solM, livM, misF, nI qt, lr, a_ctorType, a_ctorFirst, a_ctorSecond, a_typeSize, a_typeCtors, a_rowFirst, a_rowSize, a_guardKind, a_guardA, a_guardB, a_clauseFirst, a_nodeKind, a_nodeArg, a_nodePos, a_nodeRow, a_altOf, a_altSide, a_nodeNew, a_after, a_holePos, a_holeType, a_holeOwner, a_holeSide, a_clauseRow, a_clauseNodes, a_clauseTests, a_testHead, a_clauseBind, upd a_litCount p (nI (m + 1)), upd a_lits (p * 4 + i) k, a_freshInt, a_stateMask, a_stateOpen, a_statePos, a_stateNext, a_child, a_bucketHead, a_pin, a_marked, a_queue, a_val, a_valType, a_bound)) : wX_insertLiteral_61 post (nI p) k (nI i) (nI tt) (nI rl) (nI rt) ph (nI cc) (nI rc) ro (nI nc) (nI hlc) (nI clc) (nI sc) solM livM misF (nI qt) lr a_ctorType a_ctorFirst a_ctorSecond a_typeSize a_typeCtors a_rowFirst a_rowSize a_guardKind a_guardA a_guardB a_clauseFirst a_nodeKind a_nodeArg a_nodePos a_nodeRow a_altOf a_altSide a_nodeNew a_after a_holePos a_holeType a_holeOwner a_holeSide a_clauseRow a_clauseNodes a_clauseTests a_testHead a_clauseBind a_litCount a_lits a_freshInt a_stateMask a_stateOpen a_statePos a_stateNext a_child a_bucketHead a_pin a_marked a_queue a_val a_valType a_bound := by
  have e2 : nI p * 4 + nI i = nI (p * 4 + i) := by rw [show (4 : Int32) = nI 4 from rfl, pk_mul, nI_add]
  have e : (nI p).toNatClampNeg = p := nI_clamp (by omega)
  have w : vp_in (nI p) 8 := vp_in_nI (by omega) (by omega)
  unfold wX_insertLiteral_61
  rw [e2, e, hm, nI_1]
  exact ⟨vp_in_nI (by omega) (by omega), nm_r (e' := upd a_lits (p * 4 + i) k) (by rw [nI_clamp (by omega)]) ⟨w, w, nm_e h⟩⟩
theorem xw_insert {post : SX → Prop} {p m : Nat} {k : Int32} (p7 : p ≤ 7) (hm : m < 4) (hLc : a_litCount p = nI m) (hs : xl_srt a_lits p m) (hk : ∀ i, i < m → a_lits (p * 4 + i) ≠ k)
    (h : ∀ LI, xl_srt LI p (m + 1) → (∀ x, (∃ i, i < m + 1 ∧ LI (p * 4 + i) = x) ↔ x = k ∨ ∃ i, i < m ∧ a_lits (p * 4 + i) = x) → (∀ q i, q ≠ p → i < 4 → LI (q * 4 + i) = a_lits (q * 4 + i)) → post (nI tt, nI rl, nI rt, ph, nI cc, nI rc, ro, nI nc, nI hlc, nI clc, nI sc, solM, livM, misF, nI qt, lr, a_ctorType, a_ctorFirst, a_ctorSecond, a_typeSize, a_typeCtors, a_rowFirst, a_rowSize, a_guardKind, a_guardA, a_guardB, a_clauseFirst, a_nodeKind, a_nodeArg, a_nodePos, a_nodeRow, a_altOf, a_altSide, a_nodeNew, a_after, a_holePos, a_holeType, a_holeOwner, a_holeSide, a_clauseRow, a_clauseNodes, a_clauseTests, a_testHead, a_clauseBind, upd a_litCount p (nI (m + 1)), LI, a_freshInt, a_stateMask, a_stateOpen, a_statePos, a_stateNext, a_child, a_bucketHead, a_pin, a_marked, a_queue, a_val, a_valType, a_bound)) : wpX_insertLiteral post (nI tt, nI rl, nI rt, ph, nI cc, nI rc, ro, nI nc, nI hlc, nI clc, nI sc, solM, livM, misF, nI qt, lr, a_ctorType, a_ctorFirst, a_ctorSecond, a_typeSize, a_typeCtors, a_rowFirst, a_rowSize, a_guardKind, a_guardA, a_guardB, a_clauseFirst, a_nodeKind, a_nodeArg, a_nodePos, a_nodeRow, a_altOf, a_altSide, a_nodeNew, a_after, a_holePos, a_holeType, a_holeOwner, a_holeSide, a_clauseRow, a_clauseNodes, a_clauseTests, a_testHead, a_clauseBind, a_litCount, a_lits, a_freshInt, a_stateMask, a_stateOpen, a_statePos, a_stateNext, a_child, a_bucketHead, a_pin, a_marked, a_queue, a_val, a_valType, a_bound) (nI p) k := by
  have key : ∀ i LI, i ≤ m → (∀ j, j < i → LI (p * 4 + j) = a_lits (p * 4 + j)) → (∀ j, i ≤ j → j < m → LI (p * 4 + (j + 1)) = a_lits (p * 4 + j)) → (∀ j, i ≤ j → j < m → k < a_lits (p * 4 + j)) → (∀ q i, q ≠ p → i < 4 → LI (q * 4 + i) = a_lits (q * 4 + i)) →
      (∀ j, j < i → a_lits (p * 4 + j) < k) → post (nI tt, nI rl, nI rt, ph, nI cc, nI rc, ro, nI nc, nI hlc, nI clc, nI sc, solM, livM, misF, nI qt, lr, a_ctorType, a_ctorFirst, a_ctorSecond, a_typeSize, a_typeCtors, a_rowFirst, a_rowSize, a_guardKind, a_guardA, a_guardB, a_clauseFirst, a_nodeKind, a_nodeArg, a_nodePos, a_nodeRow, a_altOf, a_altSide, a_nodeNew, a_after, a_holePos, a_holeType, a_holeOwner, a_holeSide, a_clauseRow, a_clauseNodes, a_clauseTests, a_testHead, a_clauseBind, upd a_litCount p (nI (m + 1)), upd LI (p * 4 + i) k, a_freshInt, a_stateMask, a_stateOpen, a_statePos, a_stateNext, a_child, a_bucketHead, a_pin, a_marked, a_queue, a_val, a_valType, a_bound) := by
    intro i LI h1 h2 h3 h4 h5 h6
    have v1 : ∀ j, j < i → upd LI (p * 4 + i) k (p * 4 + j) = a_lits (p * 4 + j) := fun j hj => by rw [pk_un (by omega)]; exact h2 j hj
    have v2 : upd LI (p * 4 + i) k (p * 4 + i) = k := pk_us
    have v3 : ∀ j, i ≤ j → j < m → upd LI (p * 4 + i) k (p * 4 + (j + 1)) = a_lits (p * 4 + j) := fun j a b => by rw [pk_un (by omega)]; exact h3 j a b
    refine h _ (fun a b ab bm => ?_) (fun x => ?_) (fun q j hq hj => by rw [pk_un (by omega)]; exact h5 q j hq hj)
    · rcases Nat.lt_trichotomy b i with z | z | z
      · rw [v1 a (by omega), v1 b z]; exact hs a b ab (by omega)
      · subst z; rw [v1 a ab, v2]; exact h6 a ab
      · obtain ⟨b', rfl⟩ : ∃ b', b = b' + 1 := ⟨b - 1, by omega⟩
        rw [v3 b' (by omega) (by omega)]
        rcases Nat.lt_trichotomy a i with y | y | y
        · rw [v1 a y]; exact hs a b' (by omega) (by omega)
        · subst y; rw [v2]; exact h4 b' (by omega) (by omega)
        · obtain ⟨a', rfl⟩ : ∃ a', a = a' + 1 := ⟨a - 1, by omega⟩
          rw [v3 a' (by omega) (by omega)]; exact hs a' b' (by omega) (by omega)
    · constructor
      · rintro ⟨j, j1, j2⟩
        rcases Nat.lt_trichotomy j i with z | z | z
        · exact Or.inr ⟨j, by omega, by rw [← v1 j z]; exact j2⟩
        · subst z; exact Or.inl (j2.symm.trans v2)
        · obtain ⟨j', rfl⟩ : ∃ j', j = j' + 1 := ⟨j - 1, by omega⟩
          exact Or.inr ⟨j', by omega, by rw [← v3 j' (by omega) (by omega)]; exact j2⟩
      · rintro (rfl | ⟨j, j1, j2⟩)
        · exact ⟨i, by omega, v2⟩
        · by_cases z : j < i
          · exact ⟨j, by omega, (v1 j z).trans j2⟩
          · exact ⟨j + 1, by omega, (v3 j (by omega) j1).trans j2⟩
  have loop : ∀ i LI, i ≤ m → (∀ j, j < i → LI (p * 4 + j) = a_lits (p * 4 + j)) → (∀ j, i ≤ j → j < m → LI (p * 4 + (j + 1)) = a_lits (p * 4 + j)) → (∀ j, i ≤ j → j < m → k < a_lits (p * 4 + j)) → (∀ q i, q ≠ p → i < 4 → LI (q * 4 + i) = a_lits (q * 4 + i)) →
      wX_insertLiteral_13 post (nI p) k (nI tt) (nI rl) (nI rt) ph (nI cc) (nI rc) ro (nI nc) (nI hlc) (nI clc) (nI sc) solM livM misF (nI qt) lr (i + 1) (nI i) a_ctorType a_ctorFirst a_ctorSecond a_typeSize a_typeCtors a_rowFirst a_rowSize a_guardKind a_guardA a_guardB a_clauseFirst a_nodeKind a_nodeArg a_nodePos a_nodeRow a_altOf a_altSide a_nodeNew a_after a_holePos a_holeType a_holeOwner a_holeSide a_clauseRow a_clauseNodes a_clauseTests a_testHead a_clauseBind a_litCount LI a_freshInt a_stateMask a_stateOpen a_statePos a_stateNext a_child a_bucketHead a_pin a_marked a_queue a_val a_valType a_bound := by
    intro i
    induction i with
    | zero =>
      intro LI h1 h2 h3 h4 h5
      exact br_t (nI_le (a := 0) (b := 0) (by omega) (by omega)) (xw_ins61 p7 (by omega) hLc (key 0 LI h1 h2 h3 h4 h5 (fun j hj => by omega)))
    | succ i ih =>
      intro LI h1 h2 h3 h4 h5
      have e2 : nI p * 4 + nI (i + 1) = nI (p * 4 + i + 1) := by rw [show (4 : Int32) = nI 4 from rfl, pk_mul, nI_add]; rfl
      have e3 : nI p * 4 + nI (i + 1) - 1 = nI (p * 4 + i) := by rw [e2, nI_pred]
      have w1 : vp_in (nI (p * 4 + i)) 32 := vp_in_nI (by omega) (by omega)
      refine br_f (nI_nle (by omega) (by omega)) ?_
      rw [e3, nI_clamp (by omega : p * 4 + i < 2 ^ 31), h2 i (by omega)]
      refine ⟨w1, br_c (fun z => xw_ins61 p7 (by omega) hLc (key (i + 1) LI h1 h2 h3 h4 h5 (fun j hj => ?_))) (fun z => ⟨w1, ?_⟩)⟩
      · have hlt : a_lits (p * 4 + i) < k := by
          rcases Int32.lt_or_eq_of_le z with y | y
          · exact y
          · exact absurd y (hk i (by omega))
        by_cases q : j = i
        · subst q; exact hlt
        · exact Int32.lt_trans (hs j i (by omega) (by omega)) hlt
      · rw [e2]
        refine ⟨vp_in_nI (by omega) (by omega), nm_r (e' := upd LI (p * 4 + i + 1) (a_lits (p * 4 + i))) (by rw [nI_clamp (by omega)]) (nm_r (pk_m1 i) (ih _ (by omega) (fun j hj => by rw [pk_un (by omega)]; exact h2 j (by omega)) (fun j a b => ?_) (fun j a b => ?_) (fun q j hq hj => by rw [pk_un (by omega)]; exact h5 q j hq hj)))⟩
        · by_cases q : j = i
          · subst q; exact pk_us
          · rw [pk_un (by omega)]; exact h3 j (by omega) b
        · by_cases q : j = i
          · subst q; exact Int32.not_le.mp z
          · exact h4 j (by omega) b
  refine ⟨vp_in_nI (by omega) (by omega), nm_r (e' := nI m) (by rw [nI_clamp (by omega)]; exact hLc) (br_t (nI_lt (a := m) (b := 4) hm (by omega)) ⟨m + 1, loop m a_lits (Nat.le_refl _) (fun _ _ => rfl) (fun j a b => by omega) (fun j a b => by omega) (fun _ _ _ _ => rfl)⟩)⟩
theorem xw_leastFree {post : Int32 → Prop} {p m : Nat} (p1 : 1 ≤ p) (p7 : p ≤ 7) (hm : m ≤ 4) (hLc : a_litCount p = nI m) (hs : xl_srt a_lits p m) (h : ∀ j, j ≤ m → (∀ i, i < m → a_lits (p * 4 + i) ≠ nI j) → (∀ j', j' < j → ∃ i, i < m ∧ a_lits (p * 4 + i) = nI j') → post (nI j)) : wpX_leastFree post (nI tt, nI rl, nI rt, ph, nI cc, nI rc, ro, nI nc, nI hlc, nI clc, nI sc, solM, livM, misF, nI qt, lr, a_ctorType, a_ctorFirst, a_ctorSecond, a_typeSize, a_typeCtors, a_rowFirst, a_rowSize, a_guardKind, a_guardA, a_guardB, a_clauseFirst, a_nodeKind, a_nodeArg, a_nodePos, a_nodeRow, a_altOf, a_altSide, a_nodeNew, a_after, a_holePos, a_holeType, a_holeOwner, a_holeSide, a_clauseRow, a_clauseNodes, a_clauseTests, a_testHead, a_clauseBind, a_litCount, a_lits, a_freshInt, a_stateMask, a_stateOpen, a_statePos, a_stateNext, a_child, a_bucketHead, a_pin, a_marked, a_queue, a_val, a_valType, a_bound) (nI p) := by
  have e : (nI p).toNatClampNeg = p := nI_clamp (by omega)
  have w : vp_in (nI p) 8 := vp_in_nI (by omega) (by omega)
  have loop : ∀ d i j, i + d = m → j ≤ i → (∀ i', i' < i → a_lits (p * 4 + i') ≠ nI j) → (∀ j', j' < j → ∃ i', i' < i ∧ a_lits (p * 4 + i') = nI j') → wX_leastFree_4 post (nI p) (nI tt) (nI rl) (nI rt) ph (nI cc) (nI rc) ro (nI nc) (nI hlc) (nI clc) (nI sc) solM livM misF (nI qt) lr a_ctorType a_ctorFirst a_ctorSecond a_typeSize a_typeCtors a_rowFirst a_rowSize a_guardKind a_guardA a_guardB a_clauseFirst a_nodeKind a_nodeArg a_nodePos a_nodeRow a_altOf a_altSide a_nodeNew a_after a_holePos a_holeType a_holeOwner a_holeSide a_clauseRow a_clauseNodes a_clauseTests a_testHead a_clauseBind a_litCount a_lits a_freshInt a_stateMask a_stateOpen a_statePos a_stateNext a_child a_bucketHead a_pin a_marked a_queue a_val a_valType a_bound (d + 1) (nI j) (nI i) := by
    intro d
    induction d with
    | zero =>
      intro i j h1 h2 h3 h4
      have : i = m := by omega
      subst this
      refine ⟨w, ?_⟩
      rw [e, hLc]
      exact br_t (nI_le (Nat.le_refl _) (by omega)) (h j h2 h3 h4)
    | succ d ih =>
      intro i j h1 h2 h3 h4
      have e2 : nI p * 4 + nI i = nI (p * 4 + i) := by rw [show (4 : Int32) = nI 4 from rfl, pk_mul, nI_add]
      refine ⟨w, ?_⟩
      rw [e, hLc, e2, nI_clamp (by omega : p * 4 + i < 2 ^ 31)]
      refine br_f (nI_ge (by omega) (by omega)) ⟨vp_in_nI (by omega) (by omega), br_c (fun z => nm_r (nI_1 j) (nm_r (nI_1 i) (ih (i + 1) (j + 1) (by omega) (by omega) (fun i' hi' y => ?_) (fun j' hj' => ?_)))) (fun z => nm_r (nI_1 i) (ih (i + 1) j (by omega) (by omega) (fun i' hi' => ?_) (fun j' hj' => ?_)))⟩
      · by_cases q : i' = i
        · subst q; rw [z] at y; have := (nI_eq (by omega) (by omega)).mp y; omega
        · have := hs i' i (by omega) (by omega)
          rw [y, z] at this
          exact absurd this (nI_nlt (by omega) (by omega))
      · by_cases q : j' = j
        · subst q; exact ⟨i, by omega, z⟩
        · obtain ⟨i', a, b⟩ := h4 j' (by omega); exact ⟨i', by omega, b⟩
      · by_cases q : i' = i
        · subst q; exact z
        · exact h3 i' (by omega)
      · obtain ⟨i', a, b⟩ := h4 j' hj'; exact ⟨i', by omega, b⟩
  exact ⟨m + 1, loop m 0 0 (by omega) (by omega) (fun i' hi' => by omega) (fun j' hj' => by omega)⟩
theorem xw_collect64 {post : SX → Prop} (hI : xl_I a_nodeKind a_nodeArg a_nodePos a_nodeNew nc a_litCount a_lits) (hlim : ∀ p, 1 ≤ p → p ≤ 7 → xl_cnt a_nodeNew a_nodePos p nc ≤ xl_lim p) (h : ∀ FR, xl_OK a_nodeKind a_nodeArg a_nodePos a_nodeNew nc a_litCount a_lits FR → post (nI tt, nI rl, nI rt, ph, nI cc, nI rc, ro, nI nc, nI hlc, nI clc, nI sc, solM, livM, misF, nI qt, lr, a_ctorType, a_ctorFirst, a_ctorSecond, a_typeSize, a_typeCtors, a_rowFirst, a_rowSize, a_guardKind, a_guardA, a_guardB, a_clauseFirst, a_nodeKind, a_nodeArg, a_nodePos, a_nodeRow, a_altOf, a_altSide, a_nodeNew, a_after, a_holePos, a_holeType, a_holeOwner, a_holeSide, a_clauseRow, a_clauseNodes, a_clauseTests, a_testHead, a_clauseBind, a_litCount, a_lits, FR, a_stateMask, a_stateOpen, a_statePos, a_stateNext, a_child, a_bucketHead, a_pin, a_marked, a_queue, a_val, a_valType, a_bound)) :
    ∀ d i FR, i + d = 8 → 1 ≤ i → (∀ p, 1 ≤ p → p < i → xl_sp (xl_lit a_nodeKind a_nodeArg a_nodePos nc p) (FR p)) → wX_collectCandidates_64 post (nI tt) (nI rl) (nI rt) ph (nI cc) (nI rc) ro (nI nc) (nI hlc) (nI clc) (nI sc) solM livM misF (nI qt) lr (d + 1) (nI i) a_ctorType a_ctorFirst a_ctorSecond a_typeSize a_typeCtors a_rowFirst a_rowSize a_guardKind a_guardA a_guardB a_clauseFirst a_nodeKind a_nodeArg a_nodePos a_nodeRow a_altOf a_altSide a_nodeNew a_after a_holePos a_holeType a_holeOwner a_holeSide a_clauseRow a_clauseNodes a_clauseTests a_testHead a_clauseBind a_litCount a_lits FR a_stateMask a_stateOpen a_statePos a_stateNext a_child a_bucketHead a_pin a_marked a_queue a_val a_valType a_bound := by
  intro d
  induction d with
  | zero =>
    intro i FR h1 h2 h3
    have : i = 8 := by omega
    subst this
    exact br_t (nI_le (a := 8) (b := 8) (by omega) (by omega)) (h FR ⟨hI, fun p p1 p7 => h3 p p1 (by omega)⟩)
  | succ d ih =>
    intro i FR h1 h2 h3
    obtain ⟨l1, l2, l3⟩ := hI i h2 (by omega)
    have l4 : xl_cnt a_nodeNew a_nodePos i nc ≤ 4 := by have := hlim i h2 (by omega); unfold xl_lim at this; split at this <;> omega
    refine br_f (nI_ge (a := i) (b := 8) (by omega) (by omega)) (xw_leastFree h2 (by omega) l4 l1 l2 (fun j j1 j2 j3 => ⟨vp_in_nI (by omega) (by omega), nm_r (e' := upd FR i (nI j)) (by rw [nI_clamp (by omega)]) (nm_r (nI_1 i) (ih (i + 1) _ (by omega) (by omega) (fun p p1 p2 => ?_)))⟩))
    by_cases q : p = i
    · subst q
      rw [pk_us]
      refine ⟨j, by omega, rfl, fun z => ?_, fun i' hi' => (l3 _).mp (j3 i' hi')⟩
      obtain ⟨i', a, b⟩ := (l3 _).mpr z
      exact j2 i' a b
    · rw [pk_un q]; exact h3 p p1 (by omega)
theorem xw_collect23 {post : SX → Prop} (hnc : nc ≤ 48) (hnew : xl_new a_nodeKind a_nodeArg a_nodePos a_nodeNew nc) (hP : ∀ n, n < nc → ∃ p, 1 ≤ p ∧ p ≤ 7 ∧ a_nodePos n = nI p) (hlim : ∀ p, 1 ≤ p → p ≤ 7 → xl_cnt a_nodeNew a_nodePos p nc ≤ xl_lim p) (h : ∀ LC LI FR, xl_OK a_nodeKind a_nodeArg a_nodePos a_nodeNew nc LC LI FR → post (nI tt, nI rl, nI rt, ph, nI cc, nI rc, ro, nI nc, nI hlc, nI clc, nI sc, solM, livM, misF, nI qt, lr, a_ctorType, a_ctorFirst, a_ctorSecond, a_typeSize, a_typeCtors, a_rowFirst, a_rowSize, a_guardKind, a_guardA, a_guardB, a_clauseFirst, a_nodeKind, a_nodeArg, a_nodePos, a_nodeRow, a_altOf, a_altSide, a_nodeNew, a_after, a_holePos, a_holeType, a_holeOwner, a_holeSide, a_clauseRow, a_clauseNodes, a_clauseTests, a_testHead, a_clauseBind, LC, LI, FR, a_stateMask, a_stateOpen, a_statePos, a_stateNext, a_child, a_bucketHead, a_pin, a_marked, a_queue, a_val, a_valType, a_bound)) :
    ∀ d n LC LI, n + d = nc → xl_I a_nodeKind a_nodeArg a_nodePos a_nodeNew n LC LI → wX_collectCandidates_23 post (d + 1) (nI n) (nI tt) (nI rl) (nI rt) ph (nI cc) (nI rc) ro (nI nc) (nI hlc) (nI clc) (nI sc) solM livM misF (nI qt) lr a_ctorType a_ctorFirst a_ctorSecond a_typeSize a_typeCtors a_rowFirst a_rowSize a_guardKind a_guardA a_guardB a_clauseFirst a_nodeKind a_nodeArg a_nodePos a_nodeRow a_altOf a_altSide a_nodeNew a_after a_holePos a_holeType a_holeOwner a_holeSide a_clauseRow a_clauseNodes a_clauseTests a_testHead a_clauseBind LC LI a_freshInt a_stateMask a_stateOpen a_statePos a_stateNext a_child a_bucketHead a_pin a_marked a_queue a_val a_valType a_bound := by
  intro d
  induction d with
  | zero =>
    intro n LC LI h1 h2
    have : n = nc := by omega
    subst this
    exact br_t (nI_le (by omega) (by omega)) ⟨8, xw_collect64 h2 hlim (h LC LI) 7 1 a_freshInt (by omega) (by omega) (fun p a b => by omega)⟩
  | succ d ih =>
    intro n LC LI h1 h2
    have e : (nI n).toNatClampNeg = n := nI_clamp (by omega)
    have w : vp_in (nI n) 48 := vp_in_nI (by omega) (by omega)
    refine br_f (nI_ge (by omega) (by omega)) ⟨w, ?_⟩
    rw [e]
    have hstep : ∀ p x, xl_lit a_nodeKind a_nodeArg a_nodePos (n + 1) p x ↔ xl_lit a_nodeKind a_nodeArg a_nodePos n p x ∨ (a_nodeKind n = 2 ∧ a_nodePos n = nI p ∧ a_nodeArg n = x) := by
      intro p x
      constructor
      · rintro ⟨n', a, b⟩
        by_cases q : n' = n
        · subst q; exact Or.inr b
        · exact Or.inl ⟨n', by omega, b⟩
      · rintro (⟨n', a, b⟩ | b)
        · exact ⟨n', by omega, b⟩
        · exact ⟨n, by omega, b⟩
    refine br_c (fun z => nm_r (nI_1 n) (ih (n + 1) LC LI (by omega) (fun p p1 p7 => ?_))) (fun z => ?_)
    · have ec : xl_cnt a_nodeNew a_nodePos p (n + 1) = xl_cnt a_nodeNew a_nodePos p n := by
        rw [xl_cnt, if_neg (fun y => y.1 z)]; rfl
      rw [ec]
      obtain ⟨a1, a2, a3⟩ := h2 p p1 p7
      refine ⟨a1, a2, fun x => ?_⟩
      rw [a3 x, hstep p x]
      refine ⟨Or.inl, fun y => ?_⟩
      rcases y with y | ⟨y1, y2, y3⟩
      · exact y
      · have : ¬ (a_nodeKind n = 2 ∧ ¬ ∃ n', n' < n ∧ a_nodeKind n' = 2 ∧ a_nodePos n' = a_nodePos n ∧ a_nodeArg n' = a_nodeArg n) := fun y => (hnew n (by omega)).mpr y z
        have h3 : ∃ n', n' < n ∧ a_nodeKind n' = 2 ∧ a_nodePos n' = a_nodePos n ∧ a_nodeArg n' = a_nodeArg n := Classical.byContradiction (fun y => this ⟨y1, y⟩)
        obtain ⟨n', b1, b2, b3, b4⟩ := h3
        exact ⟨n', b1, b2, b3.trans y2, b4.trans y3⟩
    · obtain ⟨k2, knew⟩ := (hnew n (by omega)).mp z
      obtain ⟨p, p1, p7, hp⟩ := hP n (by omega)
      obtain ⟨a1, a2, a3⟩ := h2 p p1 p7
      have ec : xl_cnt a_nodeNew a_nodePos p (n + 1) = xl_cnt a_nodeNew a_nodePos p n + 1 := by rw [xl_cnt, if_pos ⟨z, hp⟩]
      have hle : xl_cnt a_nodeNew a_nodePos p (n + 1) ≤ xl_cnt a_nodeNew a_nodePos p nc := by
        have := xl_cnt_mono (NW := a_nodeNew) (P := a_nodePos) (p := p) d (n + 1)
        rw [show n + 1 + d = nc by omega] at this
        exact this
      have hm4 : xl_cnt a_nodeNew a_nodePos p n < 4 := by have := hlim p p1 p7; unfold xl_lim at this; split at this <;> omega
      rw [hp]
      refine ⟨w, w, xw_insert p7 hm4 a1 a2 (fun i hi y => ?_) (fun LI' s1 s2 s3 => nm_r (nI_1 n) (ih (n + 1) _ LI' (by omega) (fun q q1 q7 => ?_)))⟩
      · obtain ⟨n', b1, b2, b3, b4⟩ := (a3 _).mp ⟨i, hi, y⟩
        exact knew ⟨n', b1, b2, b3.trans hp.symm, b4⟩
      · by_cases e2 : q = p
        · subst e2
          rw [ec]
          refine ⟨pk_us, s1, fun x => ?_⟩
          rw [s2 x, a3 x, hstep q x]
          constructor
          · rintro (y | y)
            · exact Or.inr ⟨k2, hp, y.symm⟩
            · exact Or.inl y
          · rintro (y | ⟨y1, y2, y3⟩)
            · exact Or.inr y
            · exact Or.inl y3.symm
        · obtain ⟨b1, b2, b3⟩ := h2 q q1 q7
          have ec2 : xl_cnt a_nodeNew a_nodePos q (n + 1) = xl_cnt a_nodeNew a_nodePos q n := by
            rw [xl_cnt, if_neg (fun y => e2 ((nI_eq (by omega) (by omega)).mp (y.2.symm.trans hp)))]; rfl
          have hq4 : xl_cnt a_nodeNew a_nodePos q n ≤ 4 := by
            have x1 := hlim q q1 q7
            have x2 := xl_cnt_mono (NW := a_nodeNew) (P := a_nodePos) (p := q) (d + 1) n
            rw [show n + (d + 1) = nc by omega] at x2
            unfold xl_lim at x1; split at x1 <;> omega
          rw [ec2, pk_un e2]
          refine ⟨b1, fun i j ij jm => ?_, fun x => ?_⟩
          · rw [s3 q i e2 (by omega), s3 q j e2 (by omega)]; exact b2 i j ij jm
          · rw [hstep q x, ← b3 x]
            constructor
            · rintro ⟨i, i1, i2⟩; exact Or.inl ⟨i, i1, by rw [← s3 q i e2 (by omega)]; exact i2⟩
            · rintro (⟨i, i1, i2⟩ | ⟨_, y2, _⟩)
              · exact ⟨i, i1, by rw [s3 q i e2 (by omega)]; exact i2⟩
              · exact absurd ((nI_eq (by omega) (by omega)).mp (y2.symm.trans hp)) e2
theorem xw_collect {post : SX → Prop} (hnc : nc ≤ 48) (hnew : xl_new a_nodeKind a_nodeArg a_nodePos a_nodeNew nc) (hP : ∀ n, n < nc → ∃ p, 1 ≤ p ∧ p ≤ 7 ∧ a_nodePos n = nI p) (hlim : ∀ p, 1 ≤ p → p ≤ 7 → xl_cnt a_nodeNew a_nodePos p nc ≤ xl_lim p) (h : ∀ LC LI FR, xl_OK a_nodeKind a_nodeArg a_nodePos a_nodeNew nc LC LI FR → post (nI tt, nI rl, nI rt, ph, nI cc, nI rc, ro, nI nc, nI hlc, nI clc, nI sc, solM, livM, misF, nI qt, lr, a_ctorType, a_ctorFirst, a_ctorSecond, a_typeSize, a_typeCtors, a_rowFirst, a_rowSize, a_guardKind, a_guardA, a_guardB, a_clauseFirst, a_nodeKind, a_nodeArg, a_nodePos, a_nodeRow, a_altOf, a_altSide, a_nodeNew, a_after, a_holePos, a_holeType, a_holeOwner, a_holeSide, a_clauseRow, a_clauseNodes, a_clauseTests, a_testHead, a_clauseBind, LC, LI, FR, a_stateMask, a_stateOpen, a_statePos, a_stateNext, a_child, a_bucketHead, a_pin, a_marked, a_queue, a_val, a_valType, a_bound)) : wpX_collectCandidates post (nI tt, nI rl, nI rt, ph, nI cc, nI rc, ro, nI nc, nI hlc, nI clc, nI sc, solM, livM, misF, nI qt, lr, a_ctorType, a_ctorFirst, a_ctorSecond, a_typeSize, a_typeCtors, a_rowFirst, a_rowSize, a_guardKind, a_guardA, a_guardB, a_clauseFirst, a_nodeKind, a_nodeArg, a_nodePos, a_nodeRow, a_altOf, a_altSide, a_nodeNew, a_after, a_holePos, a_holeType, a_holeOwner, a_holeSide, a_clauseRow, a_clauseNodes, a_clauseTests, a_testHead, a_clauseBind, a_litCount, a_lits, a_freshInt, a_stateMask, a_stateOpen, a_statePos, a_stateNext, a_child, a_bucketHead, a_pin, a_marked, a_queue, a_val, a_valType, a_bound) := by
  have loop : ∀ d i LC, i + d = 8 → (∀ p, p < i → LC p = 0) → wX_collectCandidates_2 post (nI tt) (nI rl) (nI rt) ph (nI cc) (nI rc) ro (nI nc) (nI hlc) (nI clc) (nI sc) solM livM misF (nI qt) lr (d + 1) (nI i) a_ctorType a_ctorFirst a_ctorSecond a_typeSize a_typeCtors a_rowFirst a_rowSize a_guardKind a_guardA a_guardB a_clauseFirst a_nodeKind a_nodeArg a_nodePos a_nodeRow a_altOf a_altSide a_nodeNew a_after a_holePos a_holeType a_holeOwner a_holeSide a_clauseRow a_clauseNodes a_clauseTests a_testHead a_clauseBind LC a_lits a_freshInt a_stateMask a_stateOpen a_statePos a_stateNext a_child a_bucketHead a_pin a_marked a_queue a_val a_valType a_bound := by
    intro d
    induction d with
    | zero =>
      intro i LC h1 h2
      have : i = 8 := by omega
      subst this
      refine br_t (nI_le (a := 8) (b := 8) (by omega) (by omega)) ⟨nc + 1, xw_collect23 hnc hnew hP hlim h nc 0 LC a_lits (by omega) (fun p p1 p7 => ⟨h2 p (by omega), fun i j _ hj => by rw [xl_cnt] at hj; omega, fun x => ⟨fun ⟨i, hi, _⟩ => by rw [xl_cnt] at hi; omega, fun ⟨n', hn', _⟩ => by omega⟩⟩)⟩
    | succ d ih =>
      intro i LC h1 h2
      refine br_f (nI_ge (a := i) (b := 8) (by omega) (by omega)) ⟨vp_in_nI (by omega) (by omega), nm_r (e' := upd LC i 0) (by rw [nI_clamp (by omega)]) (nm_r (nI_1 i) (ih (i + 1) _ (by omega) (fun p hp => ?_)))⟩
      by_cases q : p = i
      · subst q; exact pk_us
      · rw [pk_un q]; exact h2 p (by omega)
  exact ⟨9, loop 8 0 a_litCount (by omega) (fun p hp => by omega)⟩
end
end
section
/-! candidates: what the two lists say -/
def xt_OK (cc : Nat) (cT TS TC : Nat → Int32) : Prop := ∀ k, 1 ≤ k → k ≤ 4 → ∃ s, s ≤ 3 ∧ TS k = nI s ∧ (∀ i, i < s → ∃ c, c < cc ∧ TC (k * 3 + i) = nI c ∧ cT c = nI k) ∧ (∀ i j, i < j → j < s → TC (k * 3 + i) < TC (k * 3 + j)) ∧ (∀ c, c < cc → cT c = nI k → ∃ i, i < s ∧ TC (k * 3 + i) = nI c)
def xf_OK (cc tt : Nat) (C1 C2 : Nat → Int32) : Prop := ∀ c, c < cc → (C1 c = -1 ∨ ∃ k, k ≤ tt ∧ C1 c = nI k) ∧ (C2 c = -1 ∨ ∃ k, k ≤ tt ∧ C2 c = nI k)
theorem cf_F {cc tt : Nat} {C1 C2 : Nat → Int32} (ht : tt ≤ 4) (h : xf_OK cc tt C1 C2) : xc_F cc C1 C2 := by
  have key : ∀ x : Int32, (x = -1 ∨ ∃ k, k ≤ tt ∧ x = nI k) → ∃ j, j < 6 ∧ x + 1 = nI j := by
    rintro x (rfl | ⟨k, hk, rfl⟩)
    · exact ⟨0, by omega, by decide⟩
    · exact ⟨k + 1, by omega, nI_1 k⟩
  intro c hc
  exact ⟨key _ (h c hc).1, key _ (h c hc).2⟩
section
variable {cc tt nc : Nat} {K A P NW LC LI FR cT TS TC C1 C2 : Nat → Int32}
theorem cf_L (hl : xl_OK K A P NW nc LC LI FR) (hlim : ∀ p, 1 ≤ p → p ≤ 7 → xl_cnt NW P p nc ≤ xl_lim p) (ht : xt_OK cc cT TS TC) : xc_L LC TS :=
  ⟨fun p p1 p7 => ⟨_, hlim p p1 p7, (hl.1 p p1 p7).1⟩, fun k k1 k4 => by obtain ⟨s, s1, s2, _⟩ := ht k k1 k4; exact ⟨s, s1, s2⟩⟩
theorem cf_cases (t : Int32) (h : 0 < xc_n LC TS 1 t ∨ True) : t = 0 ∨ (∃ k, 1 ≤ k ∧ k ≤ 4 ∧ t = nI k) ∨ ∀ p, xc_n LC TS p t = 0 := by
  by_cases t0 : t = 0
  · exact Or.inl t0
  · by_cases z : 0 < t ∧ t ≤ 4
    · obtain ⟨j, j1, rfl⟩ := nI_of (x := t) (Int32.not_lt.mpr (Int32.le_of_lt z.1))
      have j4 : j ≤ 4 := (nI_leI (a := j) (b := 4) j1 (by omega)).mp z.2
      have j0 : 1 ≤ j := by
        rcases Nat.eq_zero_or_pos j with w | w
        · subst w; exact absurd rfl t0
        · exact w
      exact Or.inr (Or.inl ⟨j, j0, j4, rfl⟩)
    · exact Or.inr (Or.inr (fun p => by unfold xc_n; rw [if_neg t0, if_neg z]))
theorem cf_n0 (hl : xl_OK K A P NW nc LC LI FR) (hlim : ∀ p, 1 ≤ p → p ≤ 7 → xl_cnt NW P p nc ≤ xl_lim p) {p : Nat} (p1 : 1 ≤ p) (p7 : p ≤ 7) : (LC p).toNatClampNeg = xl_cnt NW P p nc ∧ xl_cnt NW P p nc ≤ 4 := by
  have h1 := hlim p p1 p7
  have h2 : xl_cnt NW P p nc ≤ 4 := by unfold xl_lim at h1; split at h1 <;> omega
  rw [(hl.1 p p1 p7).1, nI_clamp (by omega)]
  exact ⟨rfl, h2⟩
theorem cf_inj (hl : xl_OK K A P NW nc LC LI FR) (hlim : ∀ p, 1 ≤ p → p ≤ 7 → xl_cnt NW P p nc ≤ xl_lim p) (ht : xt_OK cc cT TS TC) : sh_inj (xc_n LC TS) (xc_d LC LI FR TC) := by
  intro p t i j p1 p7 tn hi hj e
  rcases cf_cases (LC := LC) (TS := TS) t (Or.inr trivial) with rfl | ⟨k, k1, k4, rfl⟩ | z
  · obtain ⟨e0, e4⟩ := cf_n0 hl hlim p1 p7
    rw [xc_n0, e0] at hi hj
    unfold xc_d at e
    rw [if_pos rfl, if_pos rfl, e0] at e
    obtain ⟨_, hs, hm⟩ := hl.1 p p1 p7
    obtain ⟨f, f4, ef, nf, _⟩ := hl.2 p p1 p7
    have fresh : ∀ i, i < xl_cnt NW P p nc → LI (p * 4 + i) ≠ FR p := fun i hi z => nf (by rw [← ef]; exact (hm _).mp ⟨i, hi, z⟩)
    have srt : ∀ i j, i < j → j < xl_cnt NW P p nc → LI (p * 4 + i) ≠ LI (p * 4 + j) := fun i j a b z => by
      have := hs i j a b; rw [z] at this; exact (Int32.lt_irrefl this).elim
    by_cases ci : i < xl_cnt NW P p nc
    · by_cases cj : j < xl_cnt NW P p nc
      · rw [if_pos ci, if_pos cj] at e
        rcases Nat.lt_trichotomy i j with z | z | z
        · exact absurd e (srt i j z cj)
        · exact z
        · exact absurd e.symm (srt j i z ci)
      · rw [if_pos ci, if_neg cj] at e; exact absurd e (fresh i ci)
    · by_cases cj : j < xl_cnt NW P p nc
      · rw [if_neg ci, if_pos cj] at e; exact absurd e.symm (fresh j cj)
      · omega
  · obtain ⟨s, s3, es, h1, h2, h3⟩ := ht k k1 k4
    rw [xc_nk k1 k4, es, nI_clamp (by omega)] at hi hj
    unfold xc_d at e
    rw [if_neg (nI_ne0 (by omega) (by omega)), if_neg (nI_ne0 (by omega) (by omega)), nI_clamp (by omega)] at e
    rcases Nat.lt_trichotomy i j with z | z | z
    · have := h2 i j z hj; rw [e] at this; exact (Int32.lt_irrefl this).elim
    · exact z
    · have := h2 j i z hi; rw [e] at this; exact (Int32.lt_irrefl this).elim
  · rw [z p] at hi; omega
theorem cf_ok (hl : xl_OK K A P NW nc LC LI FR) (hlim : ∀ p, 1 ≤ p → p ≤ 7 → xl_cnt NW P p nc ≤ xl_lim p) (ht : xt_OK cc cT TS TC) {p : Nat} {t x : Int32} (p1 : 1 ≤ p) (p7 : p ≤ 7) (h : xo_okT cc cT K A P nc p t x) : ∃ i, i < xc_n LC TS p t ∧ x = xc_d LC LI FR TC p t i ∧ (t = 0 → i < xl_cnt NW P p nc) := by
  rcases h with ⟨rfl, n, n1, n2, n3, n4⟩ | ⟨k, c, k1, k4, rfl, c1, rfl, c2⟩
  · obtain ⟨e0, e4⟩ := cf_n0 hl hlim p1 p7
    obtain ⟨i, i1, i2⟩ := ((hl.1 p p1 p7).2.2 x).mpr ⟨n, n1, n2, n3, n4⟩
    refine ⟨i, by rw [xc_n0, e0]; omega, ?_, fun _ => i1⟩
    unfold xc_d
    rw [if_pos rfl, e0, if_pos i1]; exact i2.symm
  · obtain ⟨s, s3, es, h1, h2, h3⟩ := ht k k1 k4
    obtain ⟨i, i1, i2⟩ := h3 c c1 c2
    refine ⟨i, by rw [xc_nk k1 k4, es, nI_clamp (by omega)]; exact i1, ?_, fun z => absurd z (nI_ne0 (by omega) (by omega))⟩
    unfold xc_d
    rw [if_neg (nI_ne0 (by omega) (by omega)), nI_clamp (by omega)]; exact i2.symm
theorem cf_tpos (hseal : ∀ k, 1 ≤ k → k ≤ tt → TS k ≠ 0) (htt : tt ≤ 4) (ht : xt_OK cc cT TS TC) {p k : Nat} (hk : k ≤ tt) : 0 < xc_n LC TS p (nI k) := by
  by_cases k0 : k = 0
  · subst k0; rw [show nI 0 = (0 : Int32) from rfl, xc_n0]; omega
  · obtain ⟨s, s3, es, _⟩ := ht k (by omega) (by omega)
    rw [xc_nk (by omega) (by omega), es, nI_clamp (by omega)]
    rcases Nat.eq_zero_or_pos s with z | z
    · subst z; exact absurd es (hseal k (by omega) hk)
    · exact z
theorem cf_pos (hseal : ∀ k, 1 ≤ k → k ≤ tt → TS k ≠ 0) (htt : tt ≤ 4) (ht : xt_OK cc cT TS TC) (hf : xf_OK cc tt C1 C2) (q : Nat) (t c : Int32) (h : xc_f cc C1 C2 t c q ≠ -1) : 0 < xc_n LC TS q (xc_f cc C1 C2 t c q) := by
  have key : ∃ k, k ≤ tt ∧ xc_f cc C1 C2 t c q = nI k := by
    unfold xc_f at h ⊢
    by_cases z : t < 1 ∨ c < 0 ∨ nI cc ≤ c
    · rw [if_pos z] at h; exact absurd rfl h
    · rw [if_neg z] at h ⊢
      have z2 : ¬ c < 0 := fun w => z (Or.inr (Or.inl w))
      have z3 : ¬ nI cc ≤ c := fun w => z (Or.inr (Or.inr w))
      obtain ⟨j, j1, rfl⟩ := nI_of z2
      have hj : j < cc := by
        rcases Nat.lt_or_ge j cc with w | w
        · exact w
        · exact absurd (nI_le w j1) z3
      rw [nI_clamp j1] at h ⊢
      by_cases q0 : q % 2 = 0
      · rw [if_pos q0] at h ⊢; exact (hf j hj).1.resolve_left h
      · rw [if_neg q0] at h ⊢; exact (hf j hj).2.resolve_left h
  obtain ⟨k, hk, e⟩ := key
  rw [e]
  exact cf_tpos hseal htt ht hk
end
theorem gs_ex {rt : Int32} {fty : Int32 → Int32 → Nat → Int32} {cn : Nat → Int32 → Nat} {cd : Nat → Int32 → Nat → Int32} (hrt : rt ≠ -1) (h1 : 0 < cn 1 rt) (hcn : ∀ q t c, 2 ≤ q → q ≤ 7 → fty t c q ≠ -1 → 0 < cn q (fty t c q)) : ∃ v0, gh_Sh rt fty cn cd v0 :=
  ⟨_, gh_re_Sh (v := fun _ => 0) (p := 1) (i := 0) (fun q q1 q7 hq => absurd (by unfold tr_dsc; omega) hq) hcn (Nat.le_refl _) (by omega) hrt h1⟩
/-! the walk of a value through the graph, in plain terms -/
def gw_at (fty : Int32 → Int32 → Nat → Int32) (cn : Nat → Int32 → Nat) (cd : Nat → Int32 → Nat → Int32) (okT : Nat → Int32 → Int32 → Prop) (p : Nat) (t x : Int32) (i : Nat) : Prop := i < cn p t ∧ (∀ y, okT p t y → (y = cd p t i ↔ y = x)) ∧ ∀ q, q / 2 = p → q ≤ 7 → fty t (cd p t i) q = fty t x q
section
variable {N : Nat} {tst : Nat → Nat → Bool} {hd : Nat → Nat → Int32} {rw : Nat → Nat} {sol : Nat → Bool} {rt : Int32} {fty : Int32 → Int32 → Nat → Int32} {cn : Nat → Int32 → Nat} {cd : Nat → Int32 → Nat → Int32} {okT : Nat → Int32 → Int32 → Prop}
theorem gw_step {sc s p i : Nat} {MK : Nat → Int64} {OP CH : Nat → Int32} {v : Nat → Int32} (h5 : gh_C5 N tst hd rt fty okT) (hok : ∀ p t x, okT p t x → t ≠ -1) (hSI : xg_SI N tst hd rw sol rt fty cn cd (MK s) (OP s)) (p1 : 1 ≤ p) (p7 : p ≤ 7) (hop : bi_ot (OP s) p ≠ -1) (hK : xg_Kid N tst hd rw sol rt fty cn cd sc MK OP CH s p i) (G : gh_Good N tst hd rw sol rt fty (bi_L (MK s)) (bi_ot (OP s)) v) (hat : gw_at fty cn cd okT p (bi_ot (OP s) p) (v p) i) :
    ∃ c, c < sc ∧ CH (s * 5 + i) = nI c ∧ gh_Good N tst hd rw sol rt fty (bi_L (MK c)) (bi_ot (OP c)) v ∧ gh_mu (bi_ot (OP c)) < gh_mu (bi_ot (OP s)) := by
  obtain ⟨c, c1, c2, m1, o1, hsp, hred⟩ := hK
  have hN1 : ∀ c, m1 c = true → c < N := fun c hc => hSI.1 c ((hsp.1 c).mp hc).1
  have G1 := gh_spec_good h5 hok hSI.1 G hSI.2.1 p1 p7 rfl hop hat.2.1 hat.2.2 hsp
  refine ⟨c, c1, c2, gh_red_good h5 hN1 G1 hred, ?_⟩
  have hmu := gh_mu_step p1 p7 hop hsp.2
  refine Nat.lt_of_le_of_lt (gh_mono (fun q q1 q7 => ?_)).2 hmu
  by_cases z : ∃ c', bi_L (MK c) c' = true ∧ tst c' q = true
  · exact Or.inl (hred.2.2.2.1 q q1 q7 z)
  · exact Or.inr (hred.2.2.2.2 q q1 q7 z)
theorem gw_root {sc : Nat} {MK : Nat → Int64} {OP PS CH : Nat → Int32} {v : Nat → Int32} (h5 : gh_C5 N tst hd rt fty okT) (hrt : rt ≠ -1) (F : xg_Fin N tst hd rw sol rt fty cn cd sc MK OP PS CH) : gh_Good N tst hd rw sol rt fty (bi_L (MK 0)) (bi_ot (OP 0)) v ∧ gh_mu (bi_ot (OP 0)) ≤ 7 := by
  obtain ⟨f1, f2, f3, f4, f5⟩ := F
  refine ⟨gh_red_good h5 (fun c hc => of_decide_eq_true hc) ⟨fun p p1 p7 hp => ?_, fun c hc => decide_eq_true hc.1, fun c hc p p1 p7 ht => Or.inr ⟨1, by omega, ?_, ?_⟩⟩ f5, ?_⟩
  · by_cases e : p = 1
    · subst e; rfl
    · rw [if_neg e] at hp; exact absurd rfl hp
  · unfold tr_dsc; omega
  · rw [if_pos rfl]; exact hrt
  · refine Nat.le_trans (gh_mono (o := fun q => if q = 1 then rt else -1) (fun q q1 q7 => ?_)).2 ?_
    · by_cases z : ∃ c', bi_L (MK 0) c' = true ∧ tst c' q = true
      · exact Or.inl (f5.2.2.2.1 q q1 q7 z)
      · exact Or.inr (f5.2.2.2.2 q q1 q7 z)
    · unfold gh_mu
      simp only [if_true, show ¬ (2 = 1) by decide, show ¬ (3 = 1) by decide, show ¬ (4 = 1) by decide, show ¬ (5 = 1) by decide, show ¬ (6 = 1) by decide, show ¬ (7 = 1) by decide, if_false, gh_zc, gh_zo hrt]
      omega
/-- a shape walks to a leaf along the states that any closed set of states holds -/
theorem gw_walk {sc : Nat} {MK : Nat → Int64} {OP PS CH : Nat → Int32} {v : Nat → Int32} (h5 : gh_C5 N tst hd rt fty okT) (hok : ∀ p t x, okT p t x → t ≠ -1) (F : xg_Fin N tst hd rw sol rt fty cn cd sc MK OP PS CH) (hv : gh_Sh rt fty cn cd v) (Q : Nat → Prop) (hQ : ∀ s p i, Q s → s < sc → 1 ≤ p → p ≤ 7 → PS s = nI p → bi_ot (OP s) p ≠ -1 → gh_ty rt fty v p = bi_ot (OP s) p → i < cn p (bi_ot (OP s) p) → v p = cd p (bi_ot (OP s) p) i → ∀ c, CH (s * 5 + i) = nI c → c < sc → Q c) :
    ∀ μ s, s < sc → Q s → gh_mu (bi_ot (OP s)) ≤ μ → gh_Good N tst hd rw sol rt fty (bi_L (MK s)) (bi_ot (OP s)) v → ∃ l, l < sc ∧ Q l ∧ PS l = 0 ∧ (∀ c, bi_L (MK l) c = true → gh_no tst (bi_ot (OP l)) c) ∧ gh_Good N tst hd rw sol rt fty (bi_L (MK l)) (bi_ot (OP l)) v := by
  intro μ
  induction μ using Nat.strongRecOn with
  | _ μ ih =>
    intro s hs hq hmu G
    rcases F.2.2.2.1 s hs with ⟨e1, e2⟩ | ⟨p, p1, p7, e1, e2, e3⟩
    · exact ⟨s, hs, hq, e1, e2, G⟩
    · have et := G.1 p p1 p7 e2
      obtain ⟨i, i1, i2⟩ := (hv p p1 p7).2 (by rw [← et]; exact e2)
      rw [← et] at i1 i2
      obtain ⟨c, c1, c2, c3, c4⟩ := gw_step h5 hok (F.2.2.1 s hs) p1 p7 e2 (e3 i i1) G ⟨i1, fun y _ => by rw [i2], fun q _ _ => by rw [i2]⟩
      exact ih (gh_mu (bi_ot (OP c))) (by omega) c c1 (hQ s p i hq hs p1 p7 e1 e2 et.symm i1 i2 c c2 c1) (Nat.le_refl _) c3
theorem gw_leaf {sc s : Nat} {MK : Nat → Int64} {OP PS CH : Nat → Int32} {v : Nat → Int32} (h5 : gh_C5 N tst hd rt fty okT) (hsol : ∀ c c', rw c = rw c' → sol c = sol c') (F : xg_Fin N tst hd rw sol rt fty cn cd sc MK OP PS CH) (hs : s < sc) (hl : ∀ c, bi_L (MK s) c = true → gh_no tst (bi_ot (OP s)) c) (G : gh_Good N tst hd rw sol rt fty (bi_L (MK s)) (bi_ot (OP s)) v) (c : Nat) : bi_L (MK s) c = true ↔ gh_Sel N tst hd rw sol v c :=
  gh_leaf h5 (F.2.2.1 s hs).1 hsol G (F.2.2.1 s hs).2.2.2.1 hl c
/-- every leaf is some shape's, every shape has one -/
theorem gw_leaves {sc : Nat} {MK : Nat → Int64} {OP PS CH : Nat → Int32} (h5 : gh_C5 N tst hd rt fty okT) (hok : ∀ p t x, okT p t x → t ≠ -1) (hrt : rt ≠ -1) (hsol : ∀ c c', rw c = rw c' → sol c = sol c') (F : xg_Fin N tst hd rw sol rt fty cn cd sc MK OP PS CH) :
    (∀ s, s < sc → PS s = 0 → ∃ v, gh_Sh rt fty cn cd v ∧ ∀ c, bi_L (MK s) c = true ↔ gh_Sel N tst hd rw sol v c) ∧ ∀ v, gh_Sh rt fty cn cd v → ∃ s, s < sc ∧ PS s = 0 ∧ ∀ c, bi_L (MK s) c = true ↔ gh_Sel N tst hd rw sol v c := by
  constructor
  · intro s hs h0
    obtain ⟨v, v1, _, v2⟩ := gh_cl_good (F.2.2.1 s hs).2.2.2.2
    refine ⟨v, v1, fun c => gw_leaf h5 hsol F hs ?_ v2 c⟩
    rcases F.2.2.2.1 s hs with ⟨_, e2⟩ | ⟨p, p1, p7, e1, _⟩
    · exact e2
    · rw [h0] at e1; exact absurd e1.symm (nI_ne0 (by omega) (by omega))
  · intro v hv
    obtain ⟨g1, g2⟩ := gw_root (v := v) h5 hrt F
    obtain ⟨l, l1, _, l2, l3, l4⟩ := gw_walk h5 hok F hv (fun _ => True) (fun _ _ _ _ _ _ _ _ _ _ _ _ _ _ _ => trivial) 7 0 F.1 trivial g2 g1
    exact ⟨l, l1, l2, gw_leaf h5 hsol F l1 l3 l4⟩
theorem gs_solid {v : Nat → Int32} (hsol : ∀ c c', rw c = rw c' → sol c = sol c') : (∃ c, gh_Sel N tst hd rw sol v c ∧ sol c = true) ↔ ∃ c, c < N ∧ sol c = true ∧ gh_Mt tst hd v c := by
  constructor
  · rintro ⟨c, h1, h2⟩; exact ⟨c, h1.1, h2, h1.2.1⟩
  · intro h
    obtain ⟨c, ⟨c1, c2, c3⟩, c4⟩ := pk_least _ h
    refine ⟨c, ⟨c1, c3, fun c0 h0 hm => ?_⟩, c2⟩
    have h1 : sol c0 = false := by
      cases hc : sol c0 with
      | false => rfl
      | true => exact absurd ⟨by omega, hc, hm⟩ (c4 c0 h0)
    refine ⟨h1, fun e => ?_⟩
    rw [hsol c0 c e, c2] at h1
    exact absurd h1 (by decide)
end
end
section
def xj_OK (N sc : Nat) (S : Nat → Bool) (MK ND : Nat → Int64) (PS : Nat → Int32) (sol liv : Int64) (mis : Int32) : Prop :=
  (∀ c, bi_L sol c = true ↔ c < N ∧ S c = true) ∧ (mis = 0 ∨ mis = 1) ∧ (mis ≠ 0 ↔ ∃ s, s < sc ∧ PS s = 0 ∧ ∀ c, bi_L (MK s) c = true → bi_L sol c = false) ∧
  (∀ n, bi_L liv n = true ↔ ∃ c, c < N ∧ (∃ s, s < sc ∧ PS s = 0 ∧ bi_L (MK s) c = true) ∧ bi_L (ND c) n = true)
theorem bi_dis {x y : Int64} : (x &&& y) = 0 ↔ ∀ c, bi_L x c = true → bi_L y c = false := by
  rw [bi_eq0]
  constructor
  · intro h c hc; have := h c; rw [bi_and, hc] at this; simpa using this
  · intro h c
    rw [bi_and]
    cases hx : bi_L x c with
    | false => rfl
    | true => rw [h c hx]; rfl
section
variable {tt rl rt cc rc nc hlc clc sc qt : Nat} {ph ro misF lr : Int32} {solM livM : Int64} {a_ctorType a_ctorFirst a_ctorSecond a_typeSize a_typeCtors a_rowFirst a_rowSize a_guardKind a_guardA a_guardB a_clauseFirst a_nodeKind a_nodeArg a_nodePos a_nodeRow a_altOf a_altSide a_nodeNew a_after a_holePos a_holeType a_holeOwner a_holeSide a_clauseRow a_clauseTests a_testHead a_clauseBind a_litCount a_lits a_freshInt a_stateOpen a_statePos a_stateNext a_child a_bucketHead a_pin a_marked a_queue a_val a_valType a_bound : Nat → Int32} {a_clauseNodes a_stateMask : Nat → Int64}
theorem xw_judge {post : SX → Prop} (hN : clc < 64) (hR : xc_ok a_clauseRow clc) (hsc : sc ≤ 4373)
    (h : ∀ sol liv mis, xj_OK clc sc (xc_s a_clauseRow a_guardKind) a_stateMask a_clauseNodes a_statePos sol liv mis → post (nI tt, nI rl, nI rt, ph, nI cc, nI rc, ro, nI nc, nI hlc, nI clc, nI sc, sol, liv, mis, nI qt, lr, a_ctorType, a_ctorFirst, a_ctorSecond, a_typeSize, a_typeCtors, a_rowFirst, a_rowSize, a_guardKind, a_guardA, a_guardB, a_clauseFirst, a_nodeKind, a_nodeArg, a_nodePos, a_nodeRow, a_altOf, a_altSide, a_nodeNew, a_after, a_holePos, a_holeType, a_holeOwner, a_holeSide, a_clauseRow, a_clauseNodes, a_clauseTests, a_testHead, a_clauseBind, a_litCount, a_lits, a_freshInt, a_stateMask, a_stateOpen, a_statePos, a_stateNext, a_child, a_bucketHead, a_pin, a_marked, a_queue, a_val, a_valType, a_bound)) : wpX_judge post (nI tt, nI rl, nI rt, ph, nI cc, nI rc, ro, nI nc, nI hlc, nI clc, nI sc, solM, livM, misF, nI qt, lr, a_ctorType, a_ctorFirst, a_ctorSecond, a_typeSize, a_typeCtors, a_rowFirst, a_rowSize, a_guardKind, a_guardA, a_guardB, a_clauseFirst, a_nodeKind, a_nodeArg, a_nodePos, a_nodeRow, a_altOf, a_altSide, a_nodeNew, a_after, a_holePos, a_holeType, a_holeOwner, a_holeSide, a_clauseRow, a_clauseNodes, a_clauseTests, a_testHead, a_clauseBind, a_litCount, a_lits, a_freshInt, a_stateMask, a_stateOpen, a_statePos, a_stateNext, a_child, a_bucketHead, a_pin, a_marked, a_queue, a_val, a_valType, a_bound) := by
  have l116 : ∀ sol live mis, (∀ c, bi_L sol c = true ↔ c < clc ∧ xc_s a_clauseRow a_guardKind c = true) → (mis = 0 ∨ mis = 1) → (mis ≠ 0 ↔ ∃ s, s < sc ∧ a_statePos s = 0 ∧ ∀ c, bi_L (a_stateMask s) c = true → bi_L sol c = false) → (∀ c, bi_L live c = true ↔ ∃ s, s < sc ∧ a_statePos s = 0 ∧ bi_L (a_stateMask s) c = true) →
      ∀ d i liv, i + d = clc → (∀ n, bi_L liv n = true ↔ ∃ c, c < i ∧ (∃ s, s < sc ∧ a_statePos s = 0 ∧ bi_L (a_stateMask s) c = true) ∧ bi_L (a_clauseNodes c) n = true) → wX_judge_116 post live (nI tt) (nI rl) (nI rt) ph (nI cc) (nI rc) ro (nI nc) (nI hlc) (nI clc) (nI sc) sol mis (nI qt) lr a_ctorType a_ctorFirst a_ctorSecond a_typeSize a_typeCtors a_rowFirst a_rowSize a_guardKind a_guardA a_guardB a_clauseFirst a_nodeKind a_nodeArg a_nodePos a_nodeRow a_altOf a_altSide a_nodeNew a_after a_holePos a_holeType a_holeOwner a_holeSide a_clauseRow a_clauseNodes a_clauseTests a_testHead a_clauseBind a_litCount a_lits a_freshInt a_stateMask a_stateOpen a_statePos a_stateNext a_child a_bucketHead a_pin a_marked a_queue a_val a_valType a_bound (d + 1) (nI i) liv := by
    intro sol live mis h1 h2 h3 h4 d
    induction d with
    | zero =>
      intro i liv hi h5
      have : i = clc := by omega
      subst this
      exact br_t (nI_le (by omega) (by omega)) (h sol liv mis ⟨h1, h2, h3, h5⟩)
    | succ d ih =>
      intro i liv hi h5
      have e : (nI i).toNatClampNeg = i := nI_clamp (by omega)
      have w : vp_in (nI i) 64 := vp_in_nI (by omega) (by omega)
      refine br_f (nI_ge (by omega) (by omega)) (xw_hasBit (by omega) (lc_br (fun hf => nm_r (nI_1 i) (ih (i + 1) liv (by omega) (fun n => ?_))) (fun ht => ⟨w, nm_r (e' := liv ||| a_clauseNodes i) (by rw [e]) (nm_r (nI_1 i) (ih (i + 1) _ (by omega) (fun n => ?_)))⟩)))
      · rw [h5 n]
        constructor
        · rintro ⟨c, c1, c2⟩; exact ⟨c, by omega, c2⟩
        · rintro ⟨c, c1, c2, c3⟩
          by_cases q : c = i
          · subst q; rw [(h4 c).mpr c2] at hf; exact absurd hf (by decide)
          · exact ⟨c, by omega, c2, c3⟩
      · rw [bi_or, Bool.or_eq_true, h5 n]
        constructor
        · rintro (⟨c, c1, c2⟩ | z)
          · exact ⟨c, by omega, c2⟩
          · exact ⟨i, by omega, (h4 i).mp ht, z⟩
        · rintro ⟨c, c1, c2, c3⟩
          by_cases q : c = i
          · subst q; exact Or.inr c3
          · exact Or.inl ⟨c, by omega, c2, c3⟩
  have l56 : ∀ sol, (∀ c, bi_L sol c = true ↔ c < clc ∧ xc_s a_clauseRow a_guardKind c = true) → ∀ d i live mis, i + d = sc → (mis = 0 ∨ mis = 1) → (mis ≠ 0 ↔ ∃ s, s < i ∧ a_statePos s = 0 ∧ ∀ c, bi_L (a_stateMask s) c = true → bi_L sol c = false) → (∀ c, bi_L live c = true ↔ ∃ s, s < i ∧ a_statePos s = 0 ∧ bi_L (a_stateMask s) c = true) →
      wX_judge_56 post (nI tt) (nI rl) (nI rt) ph (nI cc) (nI rc) ro (nI nc) (nI hlc) (nI clc) (nI sc) sol livM (nI qt) lr a_ctorType a_ctorFirst a_ctorSecond a_typeSize a_typeCtors a_rowFirst a_rowSize a_guardKind a_guardA a_guardB a_clauseFirst a_nodeKind a_nodeArg a_nodePos a_nodeRow a_altOf a_altSide a_nodeNew a_after a_holePos a_holeType a_holeOwner a_holeSide a_clauseRow a_clauseNodes a_clauseTests a_testHead a_clauseBind a_litCount a_lits a_freshInt a_stateMask a_stateOpen a_statePos a_stateNext a_child a_bucketHead a_pin a_marked a_queue a_val a_valType a_bound (d + 1) live (nI i) mis := by
    intro sol h1 d
    induction d with
    | zero =>
      intro i live mis hi h2 h3 h4
      have : i = sc := by omega
      subst this
      exact br_t (nI_le (by omega) (by omega)) ⟨clc + 1, l116 sol live mis h1 h2 h3 h4 clc 0 0 (by omega) (fun n => by
        rw [bi_0]
        exact ⟨fun z => absurd z (by decide), fun ⟨c, c1, _⟩ => by omega⟩)⟩
    | succ d ih =>
      intro i live mis hi h2 h3 h4
      have e : (nI i).toNatClampNeg = i := nI_clamp (by omega)
      have w : vp_in (nI i) 4374 := vp_in_nI (by omega) (by omega)
      refine br_f (nI_ge (by omega) (by omega)) ⟨w, ?_⟩
      rw [e]
      have live' : a_statePos i = 0 → ∀ c, bi_L (live ||| a_stateMask i) c = true ↔ ∃ s, s < i + 1 ∧ a_statePos s = 0 ∧ bi_L (a_stateMask s) c = true := by
        intro z c
        rw [bi_or, Bool.or_eq_true, h4 c]
        constructor
        · rintro (⟨s, s1, s2⟩ | y)
          · exact ⟨s, by omega, s2⟩
          · exact ⟨i, by omega, z, y⟩
        · rintro ⟨s, s1, s2, s3⟩
          by_cases q : s = i
          · subst q; exact Or.inr s3
          · exact Or.inl ⟨s, by omega, s2, s3⟩
      refine br_c (fun z => ⟨w, nm_e ⟨w, br_c (fun y => nm_r (nI_1 i) (ih (i + 1) _ 1 (by omega) (Or.inr rfl) ?_ (live' z))) (fun y => nm_r (nI_1 i) (ih (i + 1) _ mis (by omega) h2 ?_ (live' z)))⟩⟩) (fun z => nm_r (nI_1 i) (ih (i + 1) live mis (by omega) h2 ?_ ?_))
      · exact ⟨fun _ => ⟨i, by omega, z, bi_dis.mp y⟩, fun _ => by decide⟩
      · rw [h3]
        constructor
        · rintro ⟨s, s1, s2⟩; exact ⟨s, by omega, s2⟩
        · rintro ⟨s, s1, s2, s3⟩
          by_cases q : s = i
          · subst q; exact absurd (bi_dis.mpr s3) y
          · exact ⟨s, by omega, s2, s3⟩
      · rw [h3]
        constructor
        · rintro ⟨s, s1, s2⟩; exact ⟨s, by omega, s2⟩
        · rintro ⟨s, s1, s2, s3⟩
          by_cases q : s = i
          · subst q; exact absurd s2 z
          · exact ⟨s, by omega, s2, s3⟩
      · intro c
        rw [h4 c]
        constructor
        · rintro ⟨s, s1, s2⟩; exact ⟨s, by omega, s2⟩
        · rintro ⟨s, s1, s2, s3⟩
          by_cases q : s = i
          · subst q; exact absurd s2 z
          · exact ⟨s, by omega, s2, s3⟩
  have l7 : ∀ d i sol, i + d = clc → (∀ c, bi_L sol c = true ↔ c < i ∧ xc_s a_clauseRow a_guardKind c = true) → wX_judge_7 post (nI tt) (nI rl) (nI rt) ph (nI cc) (nI rc) ro (nI nc) (nI hlc) (nI clc) (nI sc) livM misF (nI qt) lr a_ctorType a_ctorFirst a_ctorSecond a_typeSize a_typeCtors a_rowFirst a_rowSize a_guardKind a_guardA a_guardB a_clauseFirst a_nodeKind a_nodeArg a_nodePos a_nodeRow a_altOf a_altSide a_nodeNew a_after a_holePos a_holeType a_holeOwner a_holeSide a_clauseRow a_clauseNodes a_clauseTests a_testHead a_clauseBind a_litCount a_lits a_freshInt a_stateMask a_stateOpen a_statePos a_stateNext a_child a_bucketHead a_pin a_marked a_queue a_val a_valType a_bound (d + 1) (nI i) sol := by
    intro d
    induction d with
    | zero =>
      intro i sol hi h1
      have : i = clc := by omega
      subst this
      exact br_t (nI_le (by omega) (by omega)) ⟨sc + 1, l56 sol h1 sc 0 0 0 (by omega) (Or.inl rfl) ⟨fun z => absurd rfl z, fun ⟨s, s1, _⟩ => by omega⟩ (fun c => by
        rw [bi_0]
        exact ⟨fun z => absurd z (by decide), fun ⟨s, s1, _⟩ => by omega⟩)⟩
    | succ d ih =>
      intro i sol hi h1
      have e : (nI i).toNatClampNeg = i := nI_clamp (by omega)
      obtain ⟨r, r8, er⟩ := hR.1 i (by omega)
      have w : vp_in (nI i) 64 := vp_in_nI (by omega) (by omega)
      have wr : vp_in (nI r) 8 := vp_in_nI r8 (by omega)
      refine br_f (nI_ge (by omega) (by omega)) ⟨w, ?_⟩
      rw [e, er, nI_clamp (by omega : r < 2 ^ 31)]
      have es : xc_s a_clauseRow a_guardKind i = decide (a_guardKind r = 0) := by unfold xc_s; rw [er, nI_clamp (by omega)]
      refine ⟨wr, br_c (fun z => nm_e (nm_r (nI_1 i) (ih (i + 1) _ (by omega) (fun c => ?_)))) (fun z => nm_r (nI_1 i) (ih (i + 1) sol (by omega) (fun c => ?_)))⟩
      · rw [bi_set (by omega), Bool.or_eq_true, h1 c, decide_eq_true_iff]
        constructor
        · rintro (⟨a, b⟩ | a)
          · exact ⟨by omega, b⟩
          · subst a; exact ⟨by omega, by rw [es, z]; rfl⟩
        · rintro ⟨a, b⟩
          by_cases q : c = i
          · exact Or.inr q
          · exact Or.inl ⟨by omega, b⟩
      · rw [h1 c]
        constructor
        · rintro ⟨a, b⟩; exact ⟨by omega, b⟩
        · rintro ⟨a, b⟩
          by_cases q : c = i
          · subst q; rw [es, decide_eq_false z] at b; exact absurd b (by decide)
          · exact ⟨by omega, b⟩
  exact ⟨clc + 1, l7 clc 0 0 (by omega) (fun c => by
    rw [bi_0]
    exact ⟨fun z => absurd z (by decide), fun ⟨a, _⟩ => by omega⟩)⟩
/-- candIndex -/
theorem xw_candIndex {post : Int32 → Prop} {p k m : Nat} {x : Int32} (hL : xc_L a_litCount a_typeSize) (p1 : 1 ≤ p) (p7 : p ≤ 7) (hk : k ≤ 4) (hm : (xc_n a_litCount a_typeSize) p (nI k) = if k = 0 then m + 1 else m) (hex : k ≠ 0 → ∃ i, i < m ∧ (xc_d a_litCount a_lits a_freshInt a_typeCtors) p (nI k) i = x)
    (h : ∀ i, i < (xc_n a_litCount a_typeSize) p (nI k) → ((xc_d a_litCount a_lits a_freshInt a_typeCtors) p (nI k) i = x ∨ (k = 0 ∧ i = m ∧ ∀ i', i' < m → (xc_d a_litCount a_lits a_freshInt a_typeCtors) p (nI k) i' ≠ x)) → post (nI i)) : wpX_candIndex post (nI tt, nI rl, nI rt, ph, nI cc, nI rc, ro, nI nc, nI hlc, nI clc, nI sc, solM, livM, misF, nI qt, lr, a_ctorType, a_ctorFirst, a_ctorSecond, a_typeSize, a_typeCtors, a_rowFirst, a_rowSize, a_guardKind, a_guardA, a_guardB, a_clauseFirst, a_nodeKind, a_nodeArg, a_nodePos, a_nodeRow, a_altOf, a_altSide, a_nodeNew, a_after, a_holePos, a_holeType, a_holeOwner, a_holeSide, a_clauseRow, a_clauseNodes, a_clauseTests, a_testHead, a_clauseBind, a_litCount, a_lits, a_freshInt, a_stateMask, a_stateOpen, a_statePos, a_stateNext, a_child, a_bucketHead, a_pin, a_marked, a_queue, a_val, a_valType, a_bound) (nI p) (nI k) x := by
  have hm5 : m ≤ 5 := by
    have := (xc_few hL).2 p (nI k) p1 p7
    rw [hm] at this; split at this <;> omega
  have loop : ∀ d i, i + d = m → (∀ i', i' < i → (xc_d a_litCount a_lits a_freshInt a_typeCtors) p (nI k) i' ≠ x) → wX_candIndex_24 post (nI p) (nI k) x (nI m) (nI tt) (nI rl) (nI rt) ph (nI cc) (nI rc) ro (nI nc) (nI hlc) (nI clc) (nI sc) solM livM misF (nI qt) lr a_ctorType a_ctorFirst a_ctorSecond a_typeSize a_typeCtors a_rowFirst a_rowSize a_guardKind a_guardA a_guardB a_clauseFirst a_nodeKind a_nodeArg a_nodePos a_nodeRow a_altOf a_altSide a_nodeNew a_after a_holePos a_holeType a_holeOwner a_holeSide a_clauseRow a_clauseNodes a_clauseTests a_testHead a_clauseBind a_litCount a_lits a_freshInt a_stateMask a_stateOpen a_statePos a_stateNext a_child a_bucketHead a_pin a_marked a_queue a_val a_valType a_bound (d + 1) (nI i) := by
    intro d
    induction d with
    | zero =>
      intro i hi h1
      have : i = m := by omega
      subst this
      refine br_t (nI_le (by omega) (by omega)) ?_
      by_cases k0 : k = 0
      · subst k0
        exact br_t rfl (h i (by rw [hm, if_pos rfl]; omega) (Or.inr ⟨rfl, rfl, h1⟩))
      · obtain ⟨j, j1, j2⟩ := hex k0
        exact absurd j2 (h1 j j1)
    | succ d ih =>
      intro i hi h1
      have hlt : i < (xc_n a_litCount a_typeSize) p (nI k) := by rw [hm]; split <;> omega
      exact br_f (nI_ge (by omega) (by omega)) (xw_candHead hL p1 p7 hk hlt (br_c (fun z => h i hlt (Or.inl z)) (fun z => nm_r (nI_1 i) (ih (i + 1) (by omega) (lt_s h1 z)))))
  by_cases k0 : k = 0
  · subst k0
    refine br_t rfl ⟨vp_in_nI (by omega) (by omega), nm_r (e' := nI m) ?_ ⟨m + 1, loop m 0 (by omega) (fun _ z => by omega)⟩⟩
    obtain ⟨m', m1, em⟩ := hL.1 p p1 p7
    rw [if_pos rfl, show nI 0 = (0 : Int32) from rfl, xc_n0, em, nI_clamp (by split at m1 <;> omega)] at hm
    rw [nI_clamp (by omega), em]
    exact congrArg nI (by omega)
  · refine br_f (nI_ne0 (by omega) (by omega)) ⟨vp_in_nI (by omega) (by omega), nm_r (e' := nI m) ?_ ⟨m + 1, loop m 0 (by omega) (fun _ z => by omega)⟩⟩
    obtain ⟨s, s1, es⟩ := hL.2 k (by omega) hk
    rw [if_neg k0, xc_nk (by omega) hk, es, nI_clamp (by omega)] at hm
    rw [nI_clamp (by omega), es, hm]
theorem xw_findLeaf {post : Int32 → Prop} {okT : Nat → Int32 → Int32 → Prop} (h5 : gh_C5 clc (xc_t a_clauseTests) (xc_h a_testHead) (nI rt) (xc_f cc a_ctorFirst a_ctorSecond) okT) (hok : ∀ p t x, okT p t x → t ≠ -1) (hL : xc_L a_litCount a_typeSize) (hrt : nI rt ≠ -1) (F : xg_Fin clc (xc_t a_clauseTests) (xc_h a_testHead) (xc_r a_clauseRow) (xc_s a_clauseRow a_guardKind) (nI rt) (xc_f cc a_ctorFirst a_ctorSecond) (xc_n a_litCount a_typeSize) (xc_d a_litCount a_lits a_freshInt a_typeCtors) sc a_stateMask a_stateOpen a_statePos a_child)
    (hci : ∀ p k, 1 ≤ p → p ≤ 7 → gh_ty (nI rt) (xc_f cc a_ctorFirst a_ctorSecond) a_val p = nI k → k ≤ 4 → ∀ post : Int32 → Prop, (∀ i, gw_at (xc_f cc a_ctorFirst a_ctorSecond) (xc_n a_litCount a_typeSize) (xc_d a_litCount a_lits a_freshInt a_typeCtors) okT p (nI k) (a_val p) i → post (nI i)) → wpX_candIndex post (nI tt, nI rl, nI rt, ph, nI cc, nI rc, ro, nI nc, nI hlc, nI clc, nI sc, solM, livM, misF, nI qt, lr, a_ctorType, a_ctorFirst, a_ctorSecond, a_typeSize, a_typeCtors, a_rowFirst, a_rowSize, a_guardKind, a_guardA, a_guardB, a_clauseFirst, a_nodeKind, a_nodeArg, a_nodePos, a_nodeRow, a_altOf, a_altSide, a_nodeNew, a_after, a_holePos, a_holeType, a_holeOwner, a_holeSide, a_clauseRow, a_clauseNodes, a_clauseTests, a_testHead, a_clauseBind, a_litCount, a_lits, a_freshInt, a_stateMask, a_stateOpen, a_statePos, a_stateNext, a_child, a_bucketHead, a_pin, a_marked, a_queue, a_val, a_valType, a_bound) (nI p) (nI k) (a_val p))
    (h : ∀ l, l < sc → (∀ c, bi_L (a_stateMask l) c = true → gh_no (xc_t a_clauseTests) (bi_ot (a_stateOpen l)) c) → gh_Good clc (xc_t a_clauseTests) (xc_h a_testHead) (xc_r a_clauseRow) (xc_s a_clauseRow a_guardKind) (nI rt) (xc_f cc a_ctorFirst a_ctorSecond) (bi_L (a_stateMask l)) (bi_ot (a_stateOpen l)) a_val → post (nI l)) : wpX_findLeaf post (nI tt, nI rl, nI rt, ph, nI cc, nI rc, ro, nI nc, nI hlc, nI clc, nI sc, solM, livM, misF, nI qt, lr, a_ctorType, a_ctorFirst, a_ctorSecond, a_typeSize, a_typeCtors, a_rowFirst, a_rowSize, a_guardKind, a_guardA, a_guardB, a_clauseFirst, a_nodeKind, a_nodeArg, a_nodePos, a_nodeRow, a_altOf, a_altSide, a_nodeNew, a_after, a_holePos, a_holeType, a_holeOwner, a_holeSide, a_clauseRow, a_clauseNodes, a_clauseTests, a_testHead, a_clauseBind, a_litCount, a_lits, a_freshInt, a_stateMask, a_stateOpen, a_statePos, a_stateNext, a_child, a_bucketHead, a_pin, a_marked, a_queue, a_val, a_valType, a_bound) := by
  have loop : ∀ d s st, gh_mu (bi_ot (a_stateOpen s)) ≤ d → st + d ≤ 7 → s < sc → gh_Good clc (xc_t a_clauseTests) (xc_h a_testHead) (xc_r a_clauseRow) (xc_s a_clauseRow a_guardKind) (nI rt) (xc_f cc a_ctorFirst a_ctorSecond) (bi_L (a_stateMask s)) (bi_ot (a_stateOpen s)) a_val → wX_findLeaf_4 post (nI tt) (nI rl) (nI rt) ph (nI cc) (nI rc) ro (nI nc) (nI hlc) (nI clc) (nI sc) solM livM misF (nI qt) lr a_ctorType a_ctorFirst a_ctorSecond a_typeSize a_typeCtors a_rowFirst a_rowSize a_guardKind a_guardA a_guardB a_clauseFirst a_nodeKind a_nodeArg a_nodePos a_nodeRow a_altOf a_altSide a_nodeNew a_after a_holePos a_holeType a_holeOwner a_holeSide a_clauseRow a_clauseNodes a_clauseTests a_testHead a_clauseBind a_litCount a_lits a_freshInt a_stateMask a_stateOpen a_statePos a_stateNext a_child a_bucketHead a_pin a_marked a_queue a_val a_valType a_bound (d + 1) (nI s) (nI st) := by
    intro d
    induction d with
    | zero =>
      intro s st hmu hst hs G
      have e : (nI s).toNatClampNeg = s := nI_clamp (by have := F.2.1; omega)
      have w : vp_in (nI s) 4374 := vp_in_nI (by have := F.2.1; omega) (by omega)
      refine br_f (nI_ge (a := st) (b := 8) (by omega) (by omega)) ⟨w, ?_⟩
      rw [e]
      rcases F.2.2.2.1 s hs with ⟨e1, e2⟩ | ⟨p, p1, p7, e1, e2, e3⟩
      · exact br_t e1 (h s hs e2 G)
      · exfalso
        have hlt := gh_mu_step (fty := (xc_f cc a_ctorFirst a_ctorSecond)) (o := bi_ot (a_stateOpen s)) (t := 0) (h := 0) (o1 := fun q => if q = p then -1 else if q / 2 = p then (xc_f cc a_ctorFirst a_ctorSecond) 0 0 q else bi_ot (a_stateOpen s) q) p1 p7 e2 (fun q _ _ => rfl)
        omega
    | succ d ih =>
      intro s st hmu hst hs G
      have hs4 : s < 4374 := by have := F.2.1; omega
      have e : (nI s).toNatClampNeg = s := nI_clamp (by omega)
      have w : vp_in (nI s) 4374 := vp_in_nI hs4 (by omega)
      refine br_f (nI_ge (a := st) (b := 8) (by omega) (by omega)) ⟨w, ?_⟩
      rw [e]
      rcases F.2.2.2.1 s hs with ⟨e1, e2⟩ | ⟨p, p1, p7, e1, e2, e3⟩
      · exact br_t e1 (h s hs e2 G)
      · rw [e1]
        obtain ⟨k, k4, ek⟩ := (F.2.2.1 s hs).2.2.1 p p1 p7 e2
        have et := G.1 p p1 p7 e2
        refine br_f (nI_ne0 (by omega) (by omega)) ⟨w, nm_e ⟨w, ?_⟩⟩
        unfold wpX_openType
        dsimp only
        rw [show ((a_stateOpen s >>> ((3 * nI p) &&& 31)) &&& 7) - 1 = nI k from ek, nI_clamp (by omega : p < 2 ^ 31)]
        refine ⟨vp_in_nI (by omega) (by omega), hci p k p1 p7 (et.symm.trans ek) k4 _ (fun i hi => ?_)⟩
        have hi5 : i < 5 := by have := (xc_few hL).2 p (nI k) p1 p7; have := hi.1; omega
        have e5 : nI s * 5 + nI i = nI (s * 5 + i) := by rw [show (5 : Int32) = nI 5 from rfl, pk_mul, nI_add]
        rw [e5, nI_clamp (by omega : s * 5 + i < 2 ^ 31)]
        refine ⟨vp_in_nI (by omega) (by omega), ?_⟩
        rw [← ek] at hi
        obtain ⟨c, c1, c2, c3, c4⟩ := gw_step h5 hok (F.2.2.1 s hs) p1 p7 e2 (e3 i hi.1) G hi
        exact nm_r c2 (nm_r (nI_1 st) (ih c (st + 1) (by omega) (by omega) c1 c3))
  obtain ⟨g1, g2⟩ := gw_root (v := a_val) h5 hrt F
  exact ⟨8, loop 7 0 0 g2 (by omega) F.1 g1⟩
/-- guards -/
def gd_ok (G GA GB : Nat → Int32) (r : Nat) : Prop := (G r = 0 ∨ G r = 1 ∨ G r = 2) ∧ (∃ a, a < 4 ∧ GA r = nI a) ∧ (G r = 2 → ∃ b, b < 4 ∧ GB r = nI b)
def gd_h (G GA GB : Nat → Int32) (bd : Nat → Int32) (val : Nat → Int32) (r : Nat) : Prop :=
  G r = 0 ∨ (G r = 1 ∧ bd (GA r).toNatClampNeg ≠ 0 ∧ val (bd (GA r).toNatClampNeg).toNatClampNeg < GB r) ∨ (G r = 2 ∧ bd (GA r).toNatClampNeg ≠ 0 ∧ bd (GB r).toNatClampNeg ≠ 0 ∧ val (bd (GA r).toNatClampNeg).toNatClampNeg = val (bd (GB r).toNatClampNeg).toNatClampNeg)
theorem xw_guard {post : Int32 → Prop} {c r : Nat} (hc : c < 64) (hr : r < 8) (er : a_clauseRow c = nI r) (hg : gd_ok a_guardKind a_guardA a_guardB r) (hb : ∀ v, v < 4 → a_clauseBind (c * 4 + v) = 0 ∨ ∃ p, 1 ≤ p ∧ p ≤ 7 ∧ a_clauseBind (c * 4 + v) = nI p)
    (h : post (lc_b (lc_d (gd_h a_guardKind a_guardA a_guardB (fun v => a_clauseBind (c * 4 + v)) a_val r)))) : wpX_guardHolds post (nI tt, nI rl, nI rt, ph, nI cc, nI rc, ro, nI nc, nI hlc, nI clc, nI sc, solM, livM, misF, nI qt, lr, a_ctorType, a_ctorFirst, a_ctorSecond, a_typeSize, a_typeCtors, a_rowFirst, a_rowSize, a_guardKind, a_guardA, a_guardB, a_clauseFirst, a_nodeKind, a_nodeArg, a_nodePos, a_nodeRow, a_altOf, a_altSide, a_nodeNew, a_after, a_holePos, a_holeType, a_holeOwner, a_holeSide, a_clauseRow, a_clauseNodes, a_clauseTests, a_testHead, a_clauseBind, a_litCount, a_lits, a_freshInt, a_stateMask, a_stateOpen, a_statePos, a_stateNext, a_child, a_bucketHead, a_pin, a_marked, a_queue, a_val, a_valType, a_bound) (nI c) := by
  have ec : (nI c).toNatClampNeg = c := nI_clamp (by omega)
  have wc : vp_in (nI c) 64 := vp_in_nI hc (by omega)
  have wr : vp_in (nI r) 8 := vp_in_nI hr (by omega)
  have yes : gd_h a_guardKind a_guardA a_guardB (fun v => a_clauseBind (c * 4 + v)) a_val r → post 1 := by
    intro z; rw [lc_dt.mpr z] at h; exact h
  have no : ¬ gd_h a_guardKind a_guardA a_guardB (fun v => a_clauseBind (c * 4 + v)) a_val r → post 0 := by
    intro z; rw [lc_df.mpr z] at h; exact h
  obtain ⟨g1, ⟨a, a4, ea⟩, g3⟩ := hg
  have e4 : nI c * 4 + nI a = nI (c * 4 + a) := by rw [show (4 : Int32) = nI 4 from rfl, pk_mul, nI_add]
  refine ⟨wc, nm_r (e' := nI r) (by rw [ec]; exact er) ⟨wr, ?_⟩⟩
  rw [nI_clamp (by omega : r < 2 ^ 31), ea, e4, nI_clamp (by omega : c * 4 + a < 2 ^ 31)]
  have eA : (a_guardA r).toNatClampNeg = a := by rw [ea]; exact nI_clamp (by omega)
  refine br_c (fun z => yes (Or.inl z)) (fun z => ⟨wr, vp_in_nI (by omega) (by omega), nm_e ?_⟩)
  rcases hb a a4 with ez | ⟨p, p1, p7, ep⟩
  · refine br_t ez (no ?_)
    rintro (y | ⟨_, y, _⟩ | ⟨_, y, _⟩)
    · exact z y
    · rw [eA] at y; exact y ez
    · rw [eA] at y; exact y ez
  · rw [ep]
    have wp : vp_in (nI p) 8 := vp_in_nI (by omega) (by omega)
    have hne : a_clauseBind (c * 4 + a) ≠ 0 := by rw [ep]; exact nI_ne0 (by omega) (by omega)
    refine br_f (nI_ne0 (by omega) (by omega)) ⟨wr, br_c (fun k1 => ⟨wp, wr, ?_⟩) (fun k1 => ?_)⟩
    · rw [nI_clamp (by omega : p < 2 ^ 31)]
      refine br_c (fun y => no ?_) (fun y => yes (Or.inr (Or.inl ⟨k1, by rw [eA]; exact hne, ?_⟩)))
      · rintro (x | ⟨_, _, x⟩ | ⟨x, _⟩)
        · exact z x
        · dsimp only at x
          rw [eA, ep, nI_clamp (by omega)] at x
          exact (Int32.not_le.mpr x) y
        · rw [k1] at x; exact absurd x (by decide)
      · dsimp only
        rw [eA, ep, nI_clamp (by omega)]
        exact Int32.not_le.mp y
    · have k2 : a_guardKind r = 2 := by
        rcases g1 with x | x | x
        · exact absurd x z
        · exact absurd x k1
        · exact x
      obtain ⟨b, b4, eb⟩ := g3 k2
      have e4b : nI c * 4 + nI b = nI (c * 4 + b) := by rw [show (4 : Int32) = nI 4 from rfl, pk_mul, nI_add]
      have eB : (a_guardB r).toNatClampNeg = b := by rw [eb]; exact nI_clamp (by omega)
      rw [eb, e4b, nI_clamp (by omega : c * 4 + b < 2 ^ 31)]
      refine ⟨wr, vp_in_nI (by omega) (by omega), nm_e ?_⟩
      rcases hb b b4 with ez | ⟨q, q1, q7, eq⟩
      · refine br_t ez (no ?_)
        rintro (y | ⟨y, _⟩ | ⟨_, _, y, _⟩)
        · exact z y
        · exact k1 y
        · rw [eB] at y; exact y ez
      · rw [eq]
        have hnb : a_clauseBind (c * 4 + b) ≠ 0 := by rw [eq]; exact nI_ne0 (by omega) (by omega)
        refine br_f (nI_ne0 (by omega) (by omega)) ⟨wp, vp_in_nI (by omega) (by omega), ?_⟩
        rw [nI_clamp (by omega : p < 2 ^ 31), nI_clamp (by omega : q < 2 ^ 31)]
        refine br_c (fun y => yes (Or.inr (Or.inr ⟨k2, by rw [eA]; exact hne, by rw [eB]; exact hnb, ?_⟩))) (fun y => no ?_)
        · dsimp only
          rw [eA, eB, ep, eq, nI_clamp (by omega), nI_clamp (by omega)]; exact y
        · rintro (x | ⟨x, _⟩ | ⟨_, _, _, x⟩)
          · exact z x
          · exact k1 x
          · dsimp only at x
            rw [eA, eB, ep, eq, nI_clamp (by omega), nI_clamp (by omega)] at x
            exact y x
theorem xw_pick {post : Int32 → Prop} {mask : Int64} {GH : Nat → Prop} (hN : clc < 64) (hg : ∀ c, c < clc → ∀ post : Int32 → Prop, post (lc_b (lc_d (GH c))) → wpX_guardHolds post (nI tt, nI rl, nI rt, ph, nI cc, nI rc, ro, nI nc, nI hlc, nI clc, nI sc, solM, livM, misF, nI qt, lr, a_ctorType, a_ctorFirst, a_ctorSecond, a_typeSize, a_typeCtors, a_rowFirst, a_rowSize, a_guardKind, a_guardA, a_guardB, a_clauseFirst, a_nodeKind, a_nodeArg, a_nodePos, a_nodeRow, a_altOf, a_altSide, a_nodeNew, a_after, a_holePos, a_holeType, a_holeOwner, a_holeSide, a_clauseRow, a_clauseNodes, a_clauseTests, a_testHead, a_clauseBind, a_litCount, a_lits, a_freshInt, a_stateMask, a_stateOpen, a_statePos, a_stateNext, a_child, a_bucketHead, a_pin, a_marked, a_queue, a_val, a_valType, a_bound) (nI c))
    (h0 : (∀ c, c < clc → bi_L mask c = true → ¬ GH c) → post (-1)) (h1 : ∀ c, c < clc → bi_L mask c = true → GH c → (∀ c', c' < c → bi_L mask c' = true → ¬ GH c') → post (nI c)) : wpX_pickClause post (nI tt, nI rl, nI rt, ph, nI cc, nI rc, ro, nI nc, nI hlc, nI clc, nI sc, solM, livM, misF, nI qt, lr, a_ctorType, a_ctorFirst, a_ctorSecond, a_typeSize, a_typeCtors, a_rowFirst, a_rowSize, a_guardKind, a_guardA, a_guardB, a_clauseFirst, a_nodeKind, a_nodeArg, a_nodePos, a_nodeRow, a_altOf, a_altSide, a_nodeNew, a_after, a_holePos, a_holeType, a_holeOwner, a_holeSide, a_clauseRow, a_clauseNodes, a_clauseTests, a_testHead, a_clauseBind, a_litCount, a_lits, a_freshInt, a_stateMask, a_stateOpen, a_statePos, a_stateNext, a_child, a_bucketHead, a_pin, a_marked, a_queue, a_val, a_valType, a_bound) mask := by
  have loop : ∀ d i, i + d = clc → (∀ c', c' < i → bi_L mask c' = true → ¬ GH c') → wX_pickClause_2 post mask (nI tt) (nI rl) (nI rt) ph (nI cc) (nI rc) ro (nI nc) (nI hlc) (nI clc) (nI sc) solM livM misF (nI qt) lr a_ctorType a_ctorFirst a_ctorSecond a_typeSize a_typeCtors a_rowFirst a_rowSize a_guardKind a_guardA a_guardB a_clauseFirst a_nodeKind a_nodeArg a_nodePos a_nodeRow a_altOf a_altSide a_nodeNew a_after a_holePos a_holeType a_holeOwner a_holeSide a_clauseRow a_clauseNodes a_clauseTests a_testHead a_clauseBind a_litCount a_lits a_freshInt a_stateMask a_stateOpen a_statePos a_stateNext a_child a_bucketHead a_pin a_marked a_queue a_val a_valType a_bound (d + 1) (nI i) := by
    intro d
    induction d with
    | zero =>
      intro i hi h2
      have : i = clc := by omega
      subst this
      exact br_t (nI_le (by omega) (by omega)) (h0 h2)
    | succ d ih =>
      intro i hi h2
      exact br_f (nI_ge (by omega) (by omega)) (xw_hasBit (by omega) (lc_br (fun hf => nm_r (nI_1 i) (ih (i + 1) (by omega) (lt_s h2 (fun z => by rw [hf] at z; exact absurd z (by decide))))) (fun ht => hg i (by omega) _ (lc_br (fun hf => nm_r (nI_1 i) (ih (i + 1) (by omega) (lt_s h2 (fun _ => lc_df.mp hf)))) (fun hy => h1 i (by omega) ht (lc_dt.mp hy) h2)))))
  exact ⟨clc + 1, loop clc 0 (by omega) (fun _ z => by omega)⟩
theorem xw_clauseMatches {post : Int32 → Prop} {c : Nat} (hc : c < 64) (h : post (lc_b (lc_d (gh_Mt (xc_t a_clauseTests) (xc_h a_testHead) a_val c)))) : wpX_clauseMatches post (nI tt, nI rl, nI rt, ph, nI cc, nI rc, ro, nI nc, nI hlc, nI clc, nI sc, solM, livM, misF, nI qt, lr, a_ctorType, a_ctorFirst, a_ctorSecond, a_typeSize, a_typeCtors, a_rowFirst, a_rowSize, a_guardKind, a_guardA, a_guardB, a_clauseFirst, a_nodeKind, a_nodeArg, a_nodePos, a_nodeRow, a_altOf, a_altSide, a_nodeNew, a_after, a_holePos, a_holeType, a_holeOwner, a_holeSide, a_clauseRow, a_clauseNodes, a_clauseTests, a_testHead, a_clauseBind, a_litCount, a_lits, a_freshInt, a_stateMask, a_stateOpen, a_statePos, a_stateNext, a_child, a_bucketHead, a_pin, a_marked, a_queue, a_val, a_valType, a_bound) (nI c) := by
  have ec : (nI c).toNatClampNeg = c := nI_clamp (by omega)
  have wc : vp_in (nI c) 64 := vp_in_nI hc (by omega)
  have loop : ∀ d i, i + d = 8 → 1 ≤ i → (∀ p, 1 ≤ p → p < i → xc_t a_clauseTests c p = true → a_val p = xc_h a_testHead c p) → wX_clauseMatches_2 post (nI c) (nI tt) (nI rl) (nI rt) ph (nI cc) (nI rc) ro (nI nc) (nI hlc) (nI clc) (nI sc) solM livM misF (nI qt) lr a_ctorType a_ctorFirst a_ctorSecond a_typeSize a_typeCtors a_rowFirst a_rowSize a_guardKind a_guardA a_guardB a_clauseFirst a_nodeKind a_nodeArg a_nodePos a_nodeRow a_altOf a_altSide a_nodeNew a_after a_holePos a_holeType a_holeOwner a_holeSide a_clauseRow a_clauseNodes a_clauseTests a_testHead a_clauseBind a_litCount a_lits a_freshInt a_stateMask a_stateOpen a_statePos a_stateNext a_child a_bucketHead a_pin a_marked a_queue a_val a_valType a_bound (d + 1) (nI i) := by
    intro d
    induction d with
    | zero =>
      intro i hi i1 h2
      have : i = 8 := by omega
      subst this
      refine br_t (nI_le (a := 8) (b := 8) (by omega) (by omega)) ?_
      have hm : gh_Mt (xc_t a_clauseTests) (xc_h a_testHead) a_val c := fun p p1 p7 ht => h2 p p1 (by omega) ht
      rw [lc_dt.mpr hm] at h
      exact h
    | succ d ih =>
      intro i hi i1 h2
      have e8 : nI c * 8 + nI i = nI (c * 8 + i) := by rw [show (8 : Int32) = nI 8 from rfl, pk_mul, nI_add]
      refine br_f (nI_ge (a := i) (b := 8) (by omega) (by omega)) ⟨wc, ?_⟩
      rw [ec, e8, nI_clamp (by omega : c * 8 + i < 2 ^ 31), nI_clamp (by omega : i < 2 ^ 31)]
      have nx : (xc_t a_clauseTests c i = true → a_val i = xc_h a_testHead c i) → ∀ p, 1 ≤ p → p < i + 1 → xc_t a_clauseTests c p = true → a_val p = xc_h a_testHead c p := by
        intro z p p1 p2
        by_cases q : p = i
        · subst q; exact z
        · exact h2 p p1 (by omega)
      refine xw_tbit (by omega) (fun hf => nm_r (nI_1 i) (ih (i + 1) (by omega) (by omega) (nx (fun z => by rw [show xc_t a_clauseTests c i = bt (a_clauseTests c) i from rfl, hf] at z; exact absurd z (by decide))))) (fun ht => ⟨vp_in_nI (by omega) (by omega), vp_in_nI (by omega) (by omega), br_c (fun z => nm_r (nI_1 i) (ih (i + 1) (by omega) (by omega) (nx (fun _ => z)))) (fun z => ?_)⟩)
      have hm : ¬ gh_Mt (xc_t a_clauseTests) (xc_h a_testHead) a_val c := fun y => z (y i i1 (by omega) ht)
      rw [lc_df.mpr hm] at h
      exact h
  exact ⟨8, loop 7 1 (by omega) (by omega) (fun p a b => by omega)⟩
theorem xw_firstMatch {post : Int32 → Prop} {r c0 : Nat} (hN : clc < 64) (hr : r < 8) (hc0 : a_clauseFirst r = nI c0) (hle : c0 ≤ clc)
    (h0 : (∀ c, c0 ≤ c → c < clc → a_clauseRow c = nI r → ¬ gh_Mt (xc_t a_clauseTests) (xc_h a_testHead) a_val c) → post (-1)) (h1 : ∀ c, c0 ≤ c → c < clc → a_clauseRow c = nI r → gh_Mt (xc_t a_clauseTests) (xc_h a_testHead) a_val c → (∀ c', c0 ≤ c' → c' < c → a_clauseRow c' = nI r → ¬ gh_Mt (xc_t a_clauseTests) (xc_h a_testHead) a_val c') → post (nI c)) : wpX_firstMatch post (nI tt, nI rl, nI rt, ph, nI cc, nI rc, ro, nI nc, nI hlc, nI clc, nI sc, solM, livM, misF, nI qt, lr, a_ctorType, a_ctorFirst, a_ctorSecond, a_typeSize, a_typeCtors, a_rowFirst, a_rowSize, a_guardKind, a_guardA, a_guardB, a_clauseFirst, a_nodeKind, a_nodeArg, a_nodePos, a_nodeRow, a_altOf, a_altSide, a_nodeNew, a_after, a_holePos, a_holeType, a_holeOwner, a_holeSide, a_clauseRow, a_clauseNodes, a_clauseTests, a_testHead, a_clauseBind, a_litCount, a_lits, a_freshInt, a_stateMask, a_stateOpen, a_statePos, a_stateNext, a_child, a_bucketHead, a_pin, a_marked, a_queue, a_val, a_valType, a_bound) (nI r) := by
  have loop : ∀ d i, i + d = clc → c0 ≤ i → (∀ c', c0 ≤ c' → c' < i → a_clauseRow c' = nI r → ¬ gh_Mt (xc_t a_clauseTests) (xc_h a_testHead) a_val c') → wX_firstMatch_7 post (nI r) (nI tt) (nI rl) (nI rt) ph (nI cc) (nI rc) ro (nI nc) (nI hlc) (nI clc) (nI sc) solM livM misF (nI qt) lr a_ctorType a_ctorFirst a_ctorSecond a_typeSize a_typeCtors a_rowFirst a_rowSize a_guardKind a_guardA a_guardB a_clauseFirst a_nodeKind a_nodeArg a_nodePos a_nodeRow a_altOf a_altSide a_nodeNew a_after a_holePos a_holeType a_holeOwner a_holeSide a_clauseRow a_clauseNodes a_clauseTests a_testHead a_clauseBind a_litCount a_lits a_freshInt a_stateMask a_stateOpen a_statePos a_stateNext a_child a_bucketHead a_pin a_marked a_queue a_val a_valType a_bound (d + 1) (nI i) := by
    intro d
    induction d with
    | zero =>
      intro i hi i0 h2
      have : i = clc := by omega
      subst this
      exact br_t (nI_le (by omega) (by omega)) (h0 h2)
    | succ d ih =>
      intro i hi i0 h2
      have nx : (a_clauseRow i = nI r → ¬ gh_Mt (xc_t a_clauseTests) (xc_h a_testHead) a_val i) → ∀ c', c0 ≤ c' → c' < i + 1 → a_clauseRow c' = nI r → ¬ gh_Mt (xc_t a_clauseTests) (xc_h a_testHead) a_val c' := by
        intro z c' a b
        by_cases q : c' = i
        · subst q; exact z
        · exact h2 c' a (by omega)
      refine br_f (nI_ge (by omega) (by omega)) ⟨vp_in_nI (by omega) (by omega), ?_⟩
      rw [nI_clamp (by omega : i < 2 ^ 31)]
      exact br_c (fun z => xw_clauseMatches (by omega) (lc_br (fun hf => nm_r (nI_1 i) (ih (i + 1) (by omega) (by omega) (nx (fun _ => lc_df.mp hf)))) (fun ht => h1 i i0 (by omega) z (lc_dt.mp ht) h2))) (fun z => nm_r (nI_1 i) (ih (i + 1) (by omega) (by omega) (nx (fun y => absurd y z))))
  exact ⟨vp_in_nI hr (by omega), nm_r (e' := nI c0) (by rw [nI_clamp (by omega)]; exact hc0) ⟨clc - c0 + 1, loop (clc - c0) c0 (by omega) (Nat.le_refl _) (fun c' a b => by omega)⟩⟩
/-- the value's types -/
def xv_pl (rt cc : Nat) (C1 C2 VT V : Nat → Int32) (p : Nat) : Int32 := if p = 1 then nI rt else xc_f cc C1 C2 (VT (p / 2)) (V (p / 2)) p
def xv_r (VT : Nat → Int32) : Prop := ∀ p, 1 ≤ p → p ≤ 7 → VT p = -1 ∨ ∃ k, k ≤ 4 ∧ VT p = nI k
theorem xw_placeType {post : Int32 → Prop} {p : Nat} (hcc : cc ≤ 12) (p1 : 1 ≤ p) (p7 : p ≤ 7) (hv : xv_r a_valType) (h : post (xv_pl rt cc a_ctorFirst a_ctorSecond a_valType a_val p)) : wpX_placeType post (nI tt, nI rl, nI rt, ph, nI cc, nI rc, ro, nI nc, nI hlc, nI clc, nI sc, solM, livM, misF, nI qt, lr, a_ctorType, a_ctorFirst, a_ctorSecond, a_typeSize, a_typeCtors, a_rowFirst, a_rowSize, a_guardKind, a_guardA, a_guardB, a_clauseFirst, a_nodeKind, a_nodeArg, a_nodePos, a_nodeRow, a_altOf, a_altSide, a_nodeNew, a_after, a_holePos, a_holeType, a_holeOwner, a_holeSide, a_clauseRow, a_clauseNodes, a_clauseTests, a_testHead, a_clauseBind, a_litCount, a_lits, a_freshInt, a_stateMask, a_stateOpen, a_statePos, a_stateNext, a_child, a_bucketHead, a_pin, a_marked, a_queue, a_val, a_valType, a_bound) (nI p) := by
  unfold xv_pl at h
  by_cases e1 : p = 1
  · subst e1; rw [if_pos rfl] at h; exact br_t rfl h
  · rw [if_neg e1] at h
    have ne1 : ¬ nI p = 1 := fun z => e1 ((nI_eq (a := p) (b := 1) (by omega) (by omega)).mp z)
    refine br_f ne1 (nm_r (e' := nI (p / 2)) (by exact pk_shrN (by omega) _ 1 (by decide)) ?_)
    have w : vp_in (nI (p / 2)) 8 := vp_in_nI (by omega) (by omega)
    rw [nI_clamp (by omega : p / 2 < 2 ^ 31)]
    unfold xc_f at h
    refine ⟨w, br_c (fun z => ?_) (fun z => ⟨w, br_c (fun y => ?_) (fun y => ⟨w, nm_e (xw_isCtor (fun x => br_t rfl ?_) (fun x0 x1 => br_f (by decide) ?_))⟩)⟩)⟩
    · rw [if_pos (Or.inl (by rw [z]; decide))] at h; exact h
    · rw [if_pos (Or.inl (by rw [y]; decide))] at h; exact h
    · rcases x with x | x
      · rw [if_pos (Or.inr (Or.inl x))] at h; exact h
      · rw [if_pos (Or.inr (Or.inr x))] at h; exact h
    · rw [if_neg] at h
      · have wc : vp_in (a_val (p / 2)) 12 := by
          obtain ⟨j, j1, ej⟩ := nI_of x0
          rw [ej] at x1 ⊢
          refine vp_in_nI ?_ (by omega)
          rcases Nat.lt_or_ge j cc with q | q
          · omega
          · exact absurd (nI_le q j1) x1
        have ep : nI p &&& 1 = nI (p % 2) := pk_andN (by omega) 1 (by decide)
        rw [ep]
        refine pk_eq (p % 2) 0 (fun q => ⟨wc, ?_⟩) (fun q => ⟨wc, ?_⟩)
        · rw [if_pos q] at h; exact h
        · rw [if_neg q] at h; exact h
      · rintro (q | q | q)
        · rcases hv (p / 2) (by omega) (by omega) with r | ⟨k, k4, ek⟩
          · exact z r
          · rw [ek] at q y
            have : k ≠ 0 := fun r => y (by rw [r]; rfl)
            exact absurd q (nI_nlt (a := k) (b := 1) (by omega) (by omega))
        · exact x0 q
        · exact x1 q
def xv_full (rt cc : Nat) (C1 C2 VT V : Nat → Int32) : Prop := ∀ p, 1 ≤ p → p ≤ 7 → xv_pl rt cc C1 C2 VT V p ≠ -1 → VT p ≠ -1
theorem xw_isComplete {post : Int32 → Prop} (hcc : cc ≤ 12) (hv : xv_r a_valType) (h : post (lc_b (lc_d (xv_full rt cc a_ctorFirst a_ctorSecond a_valType a_val)))) : wpX_isComplete post (nI tt, nI rl, nI rt, ph, nI cc, nI rc, ro, nI nc, nI hlc, nI clc, nI sc, solM, livM, misF, nI qt, lr, a_ctorType, a_ctorFirst, a_ctorSecond, a_typeSize, a_typeCtors, a_rowFirst, a_rowSize, a_guardKind, a_guardA, a_guardB, a_clauseFirst, a_nodeKind, a_nodeArg, a_nodePos, a_nodeRow, a_altOf, a_altSide, a_nodeNew, a_after, a_holePos, a_holeType, a_holeOwner, a_holeSide, a_clauseRow, a_clauseNodes, a_clauseTests, a_testHead, a_clauseBind, a_litCount, a_lits, a_freshInt, a_stateMask, a_stateOpen, a_statePos, a_stateNext, a_child, a_bucketHead, a_pin, a_marked, a_queue, a_val, a_valType, a_bound) := by
  have loop : ∀ d i, i + d = 8 → 1 ≤ i → (∀ p, 1 ≤ p → p < i → xv_pl rt cc a_ctorFirst a_ctorSecond a_valType a_val p ≠ -1 → a_valType p ≠ -1) → wX_isComplete_2 post (nI tt) (nI rl) (nI rt) ph (nI cc) (nI rc) ro (nI nc) (nI hlc) (nI clc) (nI sc) solM livM misF (nI qt) lr a_ctorType a_ctorFirst a_ctorSecond a_typeSize a_typeCtors a_rowFirst a_rowSize a_guardKind a_guardA a_guardB a_clauseFirst a_nodeKind a_nodeArg a_nodePos a_nodeRow a_altOf a_altSide a_nodeNew a_after a_holePos a_holeType a_holeOwner a_holeSide a_clauseRow a_clauseNodes a_clauseTests a_testHead a_clauseBind a_litCount a_lits a_freshInt a_stateMask a_stateOpen a_statePos a_stateNext a_child a_bucketHead a_pin a_marked a_queue a_val a_valType a_bound (d + 1) (nI i) := by
    intro d
    induction d with
    | zero =>
      intro i hi i1 h2
      have : i = 8 := by omega
      subst this
      have hm : xv_full rt cc a_ctorFirst a_ctorSecond a_valType a_val := fun p p1 p7 ht => h2 p p1 (by omega) ht
      rw [lc_dt.mpr hm] at h
      exact br_t (nI_le (a := 8) (b := 8) (by omega) (by omega)) h
    | succ d ih =>
      intro i hi i1 h2
      have nx : (xv_pl rt cc a_ctorFirst a_ctorSecond a_valType a_val i ≠ -1 → a_valType i ≠ -1) → ∀ p, 1 ≤ p → p < i + 1 → xv_pl rt cc a_ctorFirst a_ctorSecond a_valType a_val p ≠ -1 → a_valType p ≠ -1 := by
        intro z p p1 p2
        by_cases q : p = i
        · subst q; exact z
        · exact h2 p p1 (by omega)
      refine br_f (nI_ge (a := i) (b := 8) (by omega) (by omega)) (xw_placeType hcc i1 (by omega) hv (br_c (fun z => nm_r (nI_1 i) (ih (i + 1) (by omega) (by omega) (nx (fun y => absurd z y)))) (fun z => ⟨vp_in_nI (by omega) (by omega), ?_⟩)))
      rw [nI_clamp (by omega : i < 2 ^ 31)]
      refine br_c (fun y => ?_) (fun y => nm_r (nI_1 i) (ih (i + 1) (by omega) (by omega) (nx (fun _ => y))))
      have hm : ¬ xv_full rt cc a_ctorFirst a_ctorSecond a_valType a_val := fun x => x i i1 (by omega) z y
      rw [lc_df.mpr hm] at h
      exact h
  exact ⟨8, loop 7 1 (by omega) (by omega) (fun p a b => by omega)⟩
theorem xw_forget {post : SX → Prop} (h : ∀ BD, (∀ v, v < 4 → BD v = 0) → post (nI tt, nI rl, nI rt, ph, nI cc, nI rc, ro, nI nc, nI hlc, nI clc, nI sc, solM, livM, misF, nI qt, -11, a_ctorType, a_ctorFirst, a_ctorSecond, a_typeSize, a_typeCtors, a_rowFirst, a_rowSize, a_guardKind, a_guardA, a_guardB, a_clauseFirst, a_nodeKind, a_nodeArg, a_nodePos, a_nodeRow, a_altOf, a_altSide, a_nodeNew, a_after, a_holePos, a_holeType, a_holeOwner, a_holeSide, a_clauseRow, a_clauseNodes, a_clauseTests, a_testHead, a_clauseBind, a_litCount, a_lits, a_freshInt, a_stateMask, a_stateOpen, a_statePos, a_stateNext, a_child, a_bucketHead, a_pin, a_marked, a_queue, a_val, a_valType, BD)) : wpX_forgetRun post (nI tt, nI rl, nI rt, ph, nI cc, nI rc, ro, nI nc, nI hlc, nI clc, nI sc, solM, livM, misF, nI qt, lr, a_ctorType, a_ctorFirst, a_ctorSecond, a_typeSize, a_typeCtors, a_rowFirst, a_rowSize, a_guardKind, a_guardA, a_guardB, a_clauseFirst, a_nodeKind, a_nodeArg, a_nodePos, a_nodeRow, a_altOf, a_altSide, a_nodeNew, a_after, a_holePos, a_holeType, a_holeOwner, a_holeSide, a_clauseRow, a_clauseNodes, a_clauseTests, a_testHead, a_clauseBind, a_litCount, a_lits, a_freshInt, a_stateMask, a_stateOpen, a_statePos, a_stateNext, a_child, a_bucketHead, a_pin, a_marked, a_queue, a_val, a_valType, a_bound) := by
  have loop : ∀ d i BD, i + d = 4 → (∀ v, v < i → BD v = 0) → wX_forgetRun_8 post (nI tt) (nI rl) (nI rt) ph (nI cc) (nI rc) ro (nI nc) (nI hlc) (nI clc) (nI sc) solM livM misF (nI qt) (-11) (d + 1) (nI i) a_ctorType a_ctorFirst a_ctorSecond a_typeSize a_typeCtors a_rowFirst a_rowSize a_guardKind a_guardA a_guardB a_clauseFirst a_nodeKind a_nodeArg a_nodePos a_nodeRow a_altOf a_altSide a_nodeNew a_after a_holePos a_holeType a_holeOwner a_holeSide a_clauseRow a_clauseNodes a_clauseTests a_testHead a_clauseBind a_litCount a_lits a_freshInt a_stateMask a_stateOpen a_statePos a_stateNext a_child a_bucketHead a_pin a_marked a_queue a_val a_valType BD := by
    intro d
    induction d with
    | zero =>
      intro i BD hi h1
      have : i = 4 := by omega
      subst this
      exact br_t (nI_le (a := 4) (b := 4) (by omega) (by omega)) (h BD h1)
    | succ d ih =>
      intro i BD hi h1
      refine br_f (nI_ge (a := i) (b := 4) (by omega) (by omega)) ⟨vp_in_nI (by omega) (by omega), nm_r (e' := upd BD i 0) (by rw [nI_clamp (by omega)]) (nm_r (nI_1 i) (ih (i + 1) _ (by omega) (fun v hv => ?_)))⟩
      by_cases q : v = i
      · subst q; exact pk_us
      · rw [pk_un q]; exact h1 v (by omega)
  exact ⟨5, loop 4 0 a_bound (by omega) (fun v hv => by omega)⟩
end
end
section
/-! X: the search through the graph -/
theorem pg_le : ∀ (m n : Nat) (f : Nat → Nat), (∀ i, i < n → f i < m) → (∀ i j, i < j → j < n → f i ≠ f j) → n ≤ m := by
  intro m
  induction m with
  | zero =>
    intro n f h1 _
    cases n with
    | zero => omega
    | succ n => have := h1 0 (by omega); omega
  | succ m ih =>
    intro n f h1 h2
    by_cases hx : ∃ i, i < n ∧ f i = m
    · obtain ⟨i0, hi0, e0⟩ := hx
      cases n with
      | zero => omega
      | succ n =>
        have := ih n (fun i => if i = i0 then f n else f i) (fun i hi => ?_) (fun i j hij hj => ?_)
        · omega
        · try dsimp only
          by_cases q : i = i0
          · rw [if_pos q]
            have h3 := h1 n (by omega)
            have h4 : f n ≠ m := by
              have := h2 i0 n (by omega) (by omega)
              omega
            omega
          · rw [if_neg q]
            have h3 := h1 i (by omega)
            have h4 : f i ≠ m := by
              rcases Nat.lt_or_gt_of_ne q with z | z
              · have := h2 i i0 z hi0; omega
              · have := h2 i0 i z (by omega); omega
            omega
        · try dsimp only
          by_cases q : i = i0
          · rw [if_pos q, if_neg (by omega)]
            exact fun z => h2 j n hj (by omega) z.symm
          · rw [if_neg q]
            by_cases q2 : j = i0
            · rw [if_pos q2]; exact h2 i n (by omega) (by omega)
            · rw [if_neg q2]; exact h2 i j hij (by omega)
    · have := ih n f (fun i hi => by
        have h3 := h1 i hi
        have h4 : f i ≠ m := fun z => hx ⟨i, hi, z⟩
        omega) h2
      omega
def xq_I (sc qt : Nat) (MD QU : Nat → Int32) : Prop := (∀ j, j < qt → ∃ s, s < sc ∧ QU j = nI s ∧ MD s ≠ 0) ∧ (∀ s, s < sc → MD s ≠ 0 → ∃ j, j < qt ∧ QU j = nI s) ∧ ∀ i j, i < j → j < qt → QU i ≠ QU j
theorem xq_lt {sc qt s : Nat} {MD QU : Nat → Int32} (hsc : sc < 2 ^ 31) (h : xq_I sc qt MD QU) (hs : s < sc) (hm : MD s = 0) : qt < sc := by
  have key := pg_le sc (qt + 1) (fun j => if j < qt then (QU j).toNatClampNeg else s) (fun i hi => ?_) (fun i j hij hj => ?_)
  · omega
  · try dsimp only
    by_cases q : i < qt
    · rw [if_pos q]
      obtain ⟨t, t1, t2, _⟩ := h.1 i q
      rw [t2, nI_clamp (by omega)]; exact t1
    · rw [if_neg q]; exact hs
  · try dsimp only
    rw [if_pos (by omega)]
    obtain ⟨t, t1, t2, t3⟩ := h.1 i (by omega)
    rw [t2, nI_clamp (by omega)]
    by_cases q : j < qt
    · rw [if_pos q]
      obtain ⟨u, u1, u2, u3⟩ := h.1 j q
      rw [u2, nI_clamp (by omega)]
      intro z
      exact h.2.2 i j hij q (by rw [t2, u2, z])
    · rw [if_neg q]
      intro z; rw [z] at t3; exact t3 hm
def xq_E (sc qt : Nat) (MD QU : Nat → Int32) (qt' : Nat) (MD' QU' : Nat → Int32) (New : Nat → Prop) : Prop := xq_I sc qt' MD' QU' ∧ qt ≤ qt' ∧ (∀ j, j < qt → QU' j = QU j) ∧ (∀ s, s < sc → MD s ≠ 0 → MD' s ≠ 0) ∧ (∀ s, s < sc → MD' s ≠ 0 → MD s ≠ 0 ∨ New s)
theorem xq_nb1 : vp_nar .boolean 1 = 1 := rfl
theorem xq_nb0 : vp_nar .boolean 0 = 0 := rfl
section
variable {tt rl rt cc rc nc hlc clc sc qt : Nat} {ph ro misF lr : Int32} {solM livM : Int64} {a_ctorType a_ctorFirst a_ctorSecond a_typeSize a_typeCtors a_rowFirst a_rowSize a_guardKind a_guardA a_guardB a_clauseFirst a_nodeKind a_nodeArg a_nodePos a_nodeRow a_altOf a_altSide a_nodeNew a_after a_holePos a_holeType a_holeOwner a_holeSide a_clauseRow a_clauseTests a_testHead a_clauseBind a_litCount a_lits a_freshInt a_stateOpen a_statePos a_stateNext a_child a_bucketHead a_pin a_marked a_queue a_val a_valType a_bound : Nat → Int32} {a_clauseNodes a_stateMask : Nat → Int64}
theorem xw_enqueue {post : SX → Prop} {s : Nat} (hsc : sc ≤ 4373) (hs : s < sc) (hI : xq_I sc qt a_marked a_queue) (h : ∀ qt' MD QU, xq_E sc qt a_marked a_queue qt' MD QU (fun x => x = s) → MD s ≠ 0 → post (nI tt, nI rl, nI rt, ph, nI cc, nI rc, ro, nI nc, nI hlc, nI clc, nI sc, solM, livM, misF, nI qt', lr, a_ctorType, a_ctorFirst, a_ctorSecond, a_typeSize, a_typeCtors, a_rowFirst, a_rowSize, a_guardKind, a_guardA, a_guardB, a_clauseFirst, a_nodeKind, a_nodeArg, a_nodePos, a_nodeRow, a_altOf, a_altSide, a_nodeNew, a_after, a_holePos, a_holeType, a_holeOwner, a_holeSide, a_clauseRow, a_clauseNodes, a_clauseTests, a_testHead, a_clauseBind, a_litCount, a_lits, a_freshInt, a_stateMask, a_stateOpen, a_statePos, a_stateNext, a_child, a_bucketHead, a_pin, MD, QU, a_val, a_valType, a_bound)) : wpX_enqueue post (nI tt, nI rl, nI rt, ph, nI cc, nI rc, ro, nI nc, nI hlc, nI clc, nI sc, solM, livM, misF, nI qt, lr, a_ctorType, a_ctorFirst, a_ctorSecond, a_typeSize, a_typeCtors, a_rowFirst, a_rowSize, a_guardKind, a_guardA, a_guardB, a_clauseFirst, a_nodeKind, a_nodeArg, a_nodePos, a_nodeRow, a_altOf, a_altSide, a_nodeNew, a_after, a_holePos, a_holeType, a_holeOwner, a_holeSide, a_clauseRow, a_clauseNodes, a_clauseTests, a_testHead, a_clauseBind, a_litCount, a_lits, a_freshInt, a_stateMask, a_stateOpen, a_statePos, a_stateNext, a_child, a_bucketHead, a_pin, a_marked, a_queue, a_val, a_valType, a_bound) (nI s) := by
  have e : (nI s).toNatClampNeg = s := nI_clamp (by omega)
  have w : vp_in (nI s) 4374 := vp_in_nI (by omega) (by omega)
  refine ⟨w, ?_⟩
  rw [e]
  refine br_c (fun z => ?_) (fun z => h qt a_marked a_queue ⟨hI, Nat.le_refl _, fun _ _ => rfl, fun _ _ x => x, fun _ _ x => Or.inl x⟩ z)
  have hq := xq_lt (by omega) hI hs z
  refine br_f (nI_ge (a := qt) (b := 4374) (by omega) (by omega)) ⟨w, nm_r (e' := upd a_marked s 1) (by rw [xq_nb1]) ⟨vp_in_nI (by omega) (by omega), nm_r (e' := upd a_queue qt (nI s)) (by rw [nI_clamp (by omega)]) (nm_r (nI_1 qt) (h (qt + 1) _ _ ⟨⟨fun j hj => ?_, fun t ht hm => ?_, fun i j ij jq => ?_⟩, by omega, fun j hj => pk_un (by omega), fun t ht hm => ?_, fun t ht hm => ?_⟩ ?_))⟩⟩
  · by_cases q : j = qt
    · subst q; exact ⟨s, hs, pk_us, by rw [pk_us]; decide⟩
    · obtain ⟨t, t1, t2, t3⟩ := hI.1 j (by omega)
      refine ⟨t, t1, by rw [pk_un q]; exact t2, ?_⟩
      by_cases q2 : t = s
      · subst q2; rw [pk_us]; decide
      · rw [pk_un q2]; exact t3
  · by_cases q : t = s
    · subst q; exact ⟨qt, by omega, pk_us⟩
    · rw [pk_un q] at hm
      obtain ⟨j, j1, j2⟩ := hI.2.1 t ht hm
      exact ⟨j, by omega, by rw [pk_un (by omega)]; exact j2⟩
  · by_cases q : j = qt
    · subst q
      rw [pk_us, pk_un (by omega)]
      obtain ⟨t, t1, t2, t3⟩ := hI.1 i ij
      rw [t2]
      intro y
      have := (nI_eq (by omega) (by omega)).mp y
      rw [this] at t3; exact t3 z
    · rw [pk_un (by omega), pk_un (by omega)]; exact hI.2.2 i j ij (by omega)
  · by_cases q : t = s
    · subst q; rw [pk_us]; decide
    · rw [pk_un q]; exact hm
  · by_cases q : t = s
    · exact Or.inr q
    · rw [pk_un q] at hm; exact Or.inl hm
  · rw [pk_us]; decide
theorem xq_E_t {sc qt q1 q2 : Nat} {MD QU M1 Q1 M2 Q2 : Nat → Int32} {N1 N2 N3 : Nat → Prop} (h1 : xq_E sc qt MD QU q1 M1 Q1 N1) (h2 : xq_E sc q1 M1 Q1 q2 M2 Q2 N2) (a : ∀ x, N1 x → N3 x) (b : ∀ x, N2 x → N3 x) : xq_E sc qt MD QU q2 M2 Q2 N3 :=
  ⟨h2.1, Nat.le_trans h1.2.1 h2.2.1, fun j hj => (h2.2.2.1 j (Nat.lt_of_lt_of_le hj h1.2.1)).trans (h1.2.2.1 j hj), fun s hs hm => h2.2.2.2.1 s hs (h1.2.2.2.1 s hs hm), fun s hs hm => by
    rcases h2.2.2.2.2 s hs hm with z | z
    · rcases h1.2.2.2.2 s hs z with y | y
      · exact Or.inl y
      · exact Or.inr (a s y)
    · exact Or.inr (b s z)⟩
def xq_al (PN : Nat → Int32) (p i : Nat) : Prop := PN p < 0 ∨ PN p = nI i
theorem xw_enqKids {post : SX → Prop} {s p k : Nat} (hL : xc_L a_litCount a_typeSize) (hsc : sc ≤ 4373) (hs : s < sc) (p1 : 1 ≤ p) (p7 : p ≤ 7) (ep : a_statePos s = nI p) (hk : k ≤ 4) (ek : bi_ot (a_stateOpen s) p = nI k) (hc : ∀ i, i < (xc_n a_litCount a_typeSize) p (nI k) → ∃ c, c < sc ∧ a_child (s * 5 + i) = nI c) (hI : xq_I sc qt a_marked a_queue)
    (h : ∀ qt' MD QU, xq_E sc qt a_marked a_queue qt' MD QU (fun x => ∃ i, i < (xc_n a_litCount a_typeSize) p (nI k) ∧ xq_al a_pin p i ∧ a_child (s * 5 + i) = nI x) → (∀ i c, i < (xc_n a_litCount a_typeSize) p (nI k) → xq_al a_pin p i → a_child (s * 5 + i) = nI c → c < sc → MD c ≠ 0) → post (nI tt, nI rl, nI rt, ph, nI cc, nI rc, ro, nI nc, nI hlc, nI clc, nI sc, solM, livM, misF, nI qt', lr, a_ctorType, a_ctorFirst, a_ctorSecond, a_typeSize, a_typeCtors, a_rowFirst, a_rowSize, a_guardKind, a_guardA, a_guardB, a_clauseFirst, a_nodeKind, a_nodeArg, a_nodePos, a_nodeRow, a_altOf, a_altSide, a_nodeNew, a_after, a_holePos, a_holeType, a_holeOwner, a_holeSide, a_clauseRow, a_clauseNodes, a_clauseTests, a_testHead, a_clauseBind, a_litCount, a_lits, a_freshInt, a_stateMask, a_stateOpen, a_statePos, a_stateNext, a_child, a_bucketHead, a_pin, MD, QU, a_val, a_valType, a_bound)) : wpX_enqueueChildren post (nI tt, nI rl, nI rt, ph, nI cc, nI rc, ro, nI nc, nI hlc, nI clc, nI sc, solM, livM, misF, nI qt, lr, a_ctorType, a_ctorFirst, a_ctorSecond, a_typeSize, a_typeCtors, a_rowFirst, a_rowSize, a_guardKind, a_guardA, a_guardB, a_clauseFirst, a_nodeKind, a_nodeArg, a_nodePos, a_nodeRow, a_altOf, a_altSide, a_nodeNew, a_after, a_holePos, a_holeType, a_holeOwner, a_holeSide, a_clauseRow, a_clauseNodes, a_clauseTests, a_testHead, a_clauseBind, a_litCount, a_lits, a_freshInt, a_stateMask, a_stateOpen, a_statePos, a_stateNext, a_child, a_bucketHead, a_pin, a_marked, a_queue, a_val, a_valType, a_bound) (nI s) := by
  have e : (nI s).toNatClampNeg = s := nI_clamp (by omega)
  have w : vp_in (nI s) 4374 := vp_in_nI (by omega) (by omega)
  have wp : vp_in (nI p) 8 := vp_in_nI (by omega) (by omega)
  have hn5 : (xc_n a_litCount a_typeSize) p (nI k) ≤ 5 := (xc_few hL).2 p _ p1 p7
  have loop : ∀ d i q MD QU, i + d = (xc_n a_litCount a_typeSize) p (nI k) → xq_E sc qt a_marked a_queue q MD QU (fun x => ∃ i, i < (xc_n a_litCount a_typeSize) p (nI k) ∧ xq_al a_pin p i ∧ a_child (s * 5 + i) = nI x) → (∀ i' c, i' < i → xq_al a_pin p i' → a_child (s * 5 + i') = nI c → c < sc → MD c ≠ 0) →
      wX_enqueueChildren_30 post (nI s) (nI p) (nI ((xc_n a_litCount a_typeSize) p (nI k))) (d + 1) (nI i) (nI tt) (nI rl) (nI rt) ph (nI cc) (nI rc) ro (nI nc) (nI hlc) (nI clc) (nI sc) solM livM misF (nI q) lr a_ctorType a_ctorFirst a_ctorSecond a_typeSize a_typeCtors a_rowFirst a_rowSize a_guardKind a_guardA a_guardB a_clauseFirst a_nodeKind a_nodeArg a_nodePos a_nodeRow a_altOf a_altSide a_nodeNew a_after a_holePos a_holeType a_holeOwner a_holeSide a_clauseRow a_clauseNodes a_clauseTests a_testHead a_clauseBind a_litCount a_lits a_freshInt a_stateMask a_stateOpen a_statePos a_stateNext a_child a_bucketHead a_pin MD QU a_val a_valType a_bound := by
    intro d
    induction d with
    | zero =>
      intro i q MD QU hi hE hM
      exact br_t (nI_le (by omega) (by omega)) (h q MD QU hE (fun i' c a => hM i' c (by omega)))
    | succ d ih =>
      intro i q MD QU hi hE hM
      have e5 : nI s * 5 + nI i = nI (s * 5 + i) := by rw [show (5 : Int32) = nI 5 from rfl, pk_mul, nI_add]
      have go : xq_al a_pin p i → wX_enqueueChildren_63 post (wX_enqueueChildren_30 post (nI s) (nI p) (nI ((xc_n a_litCount a_typeSize) p (nI k))) (d + 1)) (nI s) (nI p) (nI ((xc_n a_litCount a_typeSize) p (nI k))) (nI i) (nI tt) (nI rl) (nI rt) ph (nI cc) (nI rc) ro (nI nc) (nI hlc) (nI clc) (nI sc) solM livM misF (nI q) lr a_ctorType a_ctorFirst a_ctorSecond a_typeSize a_typeCtors a_rowFirst a_rowSize a_guardKind a_guardA a_guardB a_clauseFirst a_nodeKind a_nodeArg a_nodePos a_nodeRow a_altOf a_altSide a_nodeNew a_after a_holePos a_holeType a_holeOwner a_holeSide a_clauseRow a_clauseNodes a_clauseTests a_testHead a_clauseBind a_litCount a_lits a_freshInt a_stateMask a_stateOpen a_statePos a_stateNext a_child a_bucketHead a_pin MD QU a_val a_valType a_bound := by
        intro al
        obtain ⟨c, c1, c2⟩ := hc i (by omega)
        unfold wX_enqueueChildren_63
        rw [e5, nI_clamp (by omega : s * 5 + i < 2 ^ 31), c2]
        refine ⟨vp_in_nI (by omega) (by omega), xw_enqueue hsc c1 hE.1 (fun q' MD' QU' hE' hm => nm_r (nI_1 i) (ih (i + 1) q' MD' QU' (by omega) (xq_E_t hE hE' (fun x hx => hx) (fun x hx => ⟨i, by omega, al, by rw [hx]; exact c2⟩)) (fun i' c' a b d' g => ?_)))⟩
        by_cases z : i' = i
        · subst z
          rw [c2] at d'
          have := (nI_eq (by omega) (by omega)).mp d'
          subst this; exact hm
        · exact hE'.2.2.2.1 c' g (hM i' c' (by omega) b d' g)
      refine br_f (nI_ge (by omega) (by omega)) (br_f (nI_ge (a := i) (b := 5) (by omega) (by omega)) ⟨wp, ?_⟩)
      rw [nI_clamp (by omega : p < 2 ^ 31)]
      refine br_c (fun z => go (Or.inl z)) (fun z => ⟨wp, br_c (fun y => go (Or.inr y)) (fun y => nm_r (nI_1 i) (ih (i + 1) q MD QU (by omega) hE (fun i' c a b d' g => ?_)))⟩)
      by_cases x : i' = i
      · subst x
        rcases b with b | b
        · exact absurd b z
        · exact absurd b y
      · exact hM i' c (by omega) b d' g
  refine ⟨w, nm_r (e' := nI p) (by rw [e]; exact ep) ⟨w, ?_⟩⟩
  unfold wpX_openType
  dsimp only
  rw [e, show ((a_stateOpen s >>> ((3 * nI p) &&& 31)) &&& 7) - 1 = nI k from ek]
  exact xw_candCount hL p1 p7 hk ⟨_, loop ((xc_n a_litCount a_typeSize) p (nI k)) 0 qt a_marked a_queue (by omega) ⟨hI, Nat.le_refl _, fun _ _ => rfl, fun _ _ x => x, fun _ _ x => Or.inl x⟩ (fun i' c a => by omega)⟩
def xm_LM (mask sol goal : Int64) : Prop := (goal = 0 ∧ (mask &&& sol) = 0) ∨ (goal ≠ 0 ∧ ¬ (mask &&& goal) = 0)
theorem xw_leafMeets {post : Int32 → Prop} {s : Nat} {goal : Int64} (hs : s < 4374) (h : post (lc_b (lc_d (xm_LM (a_stateMask s) solM goal)))) : wpX_leafMeets post (nI tt, nI rl, nI rt, ph, nI cc, nI rc, ro, nI nc, nI hlc, nI clc, nI sc, solM, livM, misF, nI qt, lr, a_ctorType, a_ctorFirst, a_ctorSecond, a_typeSize, a_typeCtors, a_rowFirst, a_rowSize, a_guardKind, a_guardA, a_guardB, a_clauseFirst, a_nodeKind, a_nodeArg, a_nodePos, a_nodeRow, a_altOf, a_altSide, a_nodeNew, a_after, a_holePos, a_holeType, a_holeOwner, a_holeSide, a_clauseRow, a_clauseNodes, a_clauseTests, a_testHead, a_clauseBind, a_litCount, a_lits, a_freshInt, a_stateMask, a_stateOpen, a_statePos, a_stateNext, a_child, a_bucketHead, a_pin, a_marked, a_queue, a_val, a_valType, a_bound) (nI s) goal := by
  have e : (nI s).toNatClampNeg = s := nI_clamp (by omega)
  have w : vp_in (nI s) 4374 := vp_in_nI hs (by omega)
  have yes : xm_LM (a_stateMask s) solM goal → post 1 := by intro z; rw [lc_dt.mpr z] at h; exact h
  have no : ¬ xm_LM (a_stateMask s) solM goal → post 0 := by intro z; rw [lc_df.mpr z] at h; exact h
  refine br_c (fun z => ⟨w, ?_⟩) (fun z => ⟨w, ?_⟩)
  · rw [e]
    refine br_c (fun y => yes (Or.inl ⟨z, y⟩)) (fun y => no ?_)
    rintro (x | x)
    · exact y x.2
    · exact x.1 z
  · rw [e]
    refine br_c (fun y => no ?_) (fun y => yes (Or.inr ⟨z, y⟩))
    rintro (x | x)
    · exact z x.1
    · exact x.2 y
/-- the breadth-first search: a leaf that meets, or a closed set without one -/
def xq_Cl (cn : Nat → Int32 → Nat) (sc : Nat) (OP PS CH PN : Nat → Int32) (M : Nat → Prop) (s : Nat) : Prop := ∀ p i c, 1 ≤ p → p ≤ 7 → PS s = nI p → bi_ot (OP s) p ≠ -1 → i < cn p (bi_ot (OP s) p) → xq_al PN p i → CH (s * 5 + i) = nI c → c < sc → M c
theorem xw_goal {post : Int32 → SX → Prop} {goal : Int64} {RP : Nat → Prop} (hL : xc_L a_litCount a_typeSize) (F : xg_Fin clc (xc_t a_clauseTests) (xc_h a_testHead) (xc_r a_clauseRow) (xc_s a_clauseRow a_guardKind) (nI rt) (xc_f cc a_ctorFirst a_ctorSecond) (xc_n a_litCount a_typeSize) (xc_d a_litCount a_lits a_freshInt a_typeCtors) sc a_stateMask a_stateOpen a_statePos a_child) (hR0 : RP 0) (hRs : ∀ s, s < sc → RP s → xq_Cl (xc_n a_litCount a_typeSize) sc a_stateOpen a_statePos a_child a_pin RP s)
    (hT : ∀ l qt MD QU, l < sc → RP l → a_statePos l = 0 → xm_LM (a_stateMask l) solM goal → post 1 (nI tt, nI rl, nI rt, ph, nI cc, nI rc, ro, nI nc, nI hlc, nI clc, nI sc, solM, livM, misF, nI qt, lr, a_ctorType, a_ctorFirst, a_ctorSecond, a_typeSize, a_typeCtors, a_rowFirst, a_rowSize, a_guardKind, a_guardA, a_guardB, a_clauseFirst, a_nodeKind, a_nodeArg, a_nodePos, a_nodeRow, a_altOf, a_altSide, a_nodeNew, a_after, a_holePos, a_holeType, a_holeOwner, a_holeSide, a_clauseRow, a_clauseNodes, a_clauseTests, a_testHead, a_clauseBind, a_litCount, a_lits, a_freshInt, a_stateMask, a_stateOpen, a_statePos, a_stateNext, a_child, a_bucketHead, a_pin, MD, QU, a_val, a_valType, a_bound))
    (hF : ∀ qt MD QU, ∀ M : Nat → Prop, M 0 → (∀ s, s < sc → M s → xq_Cl (xc_n a_litCount a_typeSize) sc a_stateOpen a_statePos a_child a_pin M s) → (∀ s, s < sc → M s → a_statePos s = 0 → ¬ xm_LM (a_stateMask s) solM goal) → post 0 (nI tt, nI rl, nI rt, ph, nI cc, nI rc, ro, nI nc, nI hlc, nI clc, nI sc, solM, livM, misF, nI qt, lr, a_ctorType, a_ctorFirst, a_ctorSecond, a_typeSize, a_typeCtors, a_rowFirst, a_rowSize, a_guardKind, a_guardA, a_guardB, a_clauseFirst, a_nodeKind, a_nodeArg, a_nodePos, a_nodeRow, a_altOf, a_altSide, a_nodeNew, a_after, a_holePos, a_holeType, a_holeOwner, a_holeSide, a_clauseRow, a_clauseNodes, a_clauseTests, a_testHead, a_clauseBind, a_litCount, a_lits, a_freshInt, a_stateMask, a_stateOpen, a_statePos, a_stateNext, a_child, a_bucketHead, a_pin, MD, QU, a_val, a_valType, a_bound)) : wpX_goalReachable post (nI tt, nI rl, nI rt, ph, nI cc, nI rc, ro, nI nc, nI hlc, nI clc, nI sc, solM, livM, misF, nI qt, lr, a_ctorType, a_ctorFirst, a_ctorSecond, a_typeSize, a_typeCtors, a_rowFirst, a_rowSize, a_guardKind, a_guardA, a_guardB, a_clauseFirst, a_nodeKind, a_nodeArg, a_nodePos, a_nodeRow, a_altOf, a_altSide, a_nodeNew, a_after, a_holePos, a_holeType, a_holeOwner, a_holeSide, a_clauseRow, a_clauseNodes, a_clauseTests, a_testHead, a_clauseBind, a_litCount, a_lits, a_freshInt, a_stateMask, a_stateOpen, a_statePos, a_stateNext, a_child, a_bucketHead, a_pin, a_marked, a_queue, a_val, a_valType, a_bound) goal := by
  have hsc := F.2.1
  have loop : ∀ d k q MD QU, k + d = 4374 → k ≤ q → xq_I sc q MD QU → (∀ s, s < sc → MD s ≠ 0 → RP s) → MD 0 ≠ 0 → (∀ j s, j < k → s < sc → QU j = nI s → xq_Cl (xc_n a_litCount a_typeSize) sc a_stateOpen a_statePos a_child a_pin (fun c => MD c ≠ 0) s ∧ (a_statePos s = 0 → ¬ xm_LM (a_stateMask s) solM goal)) →
      wX_goalReachable_35 post goal (d + 1) (nI k) (nI tt) (nI rl) (nI rt) ph (nI cc) (nI rc) ro (nI nc) (nI hlc) (nI clc) (nI sc) solM livM misF (nI q) lr a_ctorType a_ctorFirst a_ctorSecond a_typeSize a_typeCtors a_rowFirst a_rowSize a_guardKind a_guardA a_guardB a_clauseFirst a_nodeKind a_nodeArg a_nodePos a_nodeRow a_altOf a_altSide a_nodeNew a_after a_holePos a_holeType a_holeOwner a_holeSide a_clauseRow a_clauseNodes a_clauseTests a_testHead a_clauseBind a_litCount a_lits a_freshInt a_stateMask a_stateOpen a_statePos a_stateNext a_child a_bucketHead a_pin MD QU a_val a_valType a_bound := by
    intro d
    induction d with
    | zero =>
      intro k q MD QU hk hkq hI hRP h0 hP
      exfalso
      have := pg_le sc q (fun j => (QU j).toNatClampNeg) (fun j hj => by
        obtain ⟨t, t1, t2, _⟩ := hI.1 j hj
        rw [t2, nI_clamp (by omega)]; exact t1) (fun i j ij jq z => by
        obtain ⟨t, t1, t2, _⟩ := hI.1 i (by omega)
        obtain ⟨u, u1, u2, _⟩ := hI.1 j jq
        try dsimp only at z
        rw [t2, u2, nI_clamp (by omega), nI_clamp (by omega)] at z
        exact hI.2.2 i j ij jq (by rw [t2, u2, z]))
      omega
    | succ d ih =>
      intro k q MD QU hk hkq hI hRP h0 hP
      have hqsc : q ≤ sc := pg_le sc q (fun j => (QU j).toNatClampNeg) (fun j hj => by
        obtain ⟨t, t1, t2, _⟩ := hI.1 j hj
        rw [t2, nI_clamp (by omega)]; exact t1) (fun i j ij jq z => by
        obtain ⟨t, t1, t2, _⟩ := hI.1 i (by omega)
        obtain ⟨u, u1, u2, _⟩ := hI.1 j jq
        try dsimp only at z
        rw [t2, u2, nI_clamp (by omega), nI_clamp (by omega)] at z
        exact hI.2.2 i j ij jq (by rw [t2, u2, z]))
      by_cases eq : k = q
      · subst eq
        refine br_t (nI_le (by omega) (by omega)) (hF k MD QU (fun s => MD s ≠ 0) h0 (fun s hs hm => ?_) (fun s hs hm => ?_))
        · obtain ⟨j, j1, j2⟩ := hI.2.1 s hs hm; exact (hP j s j1 hs j2).1
        · obtain ⟨j, j1, j2⟩ := hI.2.1 s hs hm; exact (hP j s j1 hs j2).2
      · obtain ⟨s, s1, s2, s3⟩ := hI.1 k (by omega)
        have es : (nI s).toNatClampNeg = s := nI_clamp (by omega)
        have ws : vp_in (nI s) 4374 := vp_in_nI (by omega) (by omega)
        have uniq : ∀ j t, t < sc → QU j = nI t → j = k → t = s := fun j t ht a b => by
          subst b; rw [s2] at a; exact ((nI_eq (by omega) (by omega)).mp a).symm
        refine br_f (nI_ge (by omega) (by omega)) (br_f (nI_ge (a := k) (b := 4374) (by omega) (by omega)) ⟨vp_in_nI (by omega) (by omega), nm_r (e' := nI s) (by rw [nI_clamp (by omega)]; exact s2) ⟨ws, ?_⟩⟩)
        rw [es]
        rcases F.2.2.2.1 s s1 with ⟨e1, e2⟩ | ⟨p, p1, p7, e1, e2, e3⟩
        · refine br_t e1 (xw_leafMeets (by omega) (lc_br (fun hf => nm_r (nI_1 k) (ih (k + 1) q MD QU (by omega) (by omega) hI hRP h0 (fun j t a b c => ?_))) (fun ht => hT s q MD QU s1 (hRP s s1 s3) e1 (lc_dt.mp ht))))
          by_cases z : j = k
          · have := uniq j t b c z
            subst this
            refine ⟨fun p i c' p1 p7 hp => ?_, fun _ => lc_df.mp hf⟩
            rw [e1] at hp
            exact absurd hp.symm (nI_ne0 (by omega) (by omega))
          · exact hP j t (by omega) b c
        · obtain ⟨kk, k4, ek⟩ := (F.2.2.1 s s1).2.2.1 p p1 p7 e2
          refine br_f (by rw [e1]; exact nI_ne0 (by omega) (by omega)) (xw_enqKids hL hsc s1 p1 p7 e1 k4 ek (fun i hi => ?_) hI (fun q' MD' QU' hE hm => nm_r (nI_1 k) (ih (k + 1) q' MD' QU' (by omega) (by have := hE.2.1; omega) hE.1 (fun t ht hmt => ?_) (hE.2.2.2.1 0 F.1 h0) (fun j t a b c => ?_))))
          · rw [← ek] at hi
            obtain ⟨c, c1, c2, _⟩ := e3 i hi
            exact ⟨c, c1, c2⟩
          · rcases hE.2.2.2.2 t ht hmt with z | ⟨i, i1, i2, i3⟩
            · exact hRP t ht z
            · rw [← ek] at i1
              exact hRs s s1 (hRP s s1 s3) p i t p1 p7 e1 e2 i1 i2 i3 ht
          · have hjq : j < q := by omega
            rw [hE.2.2.1 j hjq] at c
            by_cases z : j = k
            · have := uniq j t b c z
              subst this
              refine ⟨fun p' i c' p1' p7' hp' hop' hi' hal' hch' hc' => ?_, fun y => ?_⟩
              · rw [e1] at hp'
                have := (nI_eq (by omega) (by omega)).mp hp'
                subst this
                rw [ek] at hi'
                exact hm i c' hi' hal' hch' hc'
              · rw [e1] at y; exact absurd y (nI_ne0 (by omega) (by omega))
            · obtain ⟨x1, x2⟩ := hP j t (by omega) b c
              exact ⟨fun p' i c' p1' p7' hp' hop' hi' hal' hch' hc' => hE.2.2.2.1 c' hc' (x1 p' i c' p1' p7' hp' hop' hi' hal' hch' hc'), x2⟩
  have clear : ∀ d i MD, i + d = sc → (∀ s, s < i → MD s = 0) → wX_goalReachable_2 post goal (nI tt) (nI rl) (nI rt) ph (nI cc) (nI rc) ro (nI nc) (nI hlc) (nI clc) (nI sc) solM livM misF (nI qt) lr (d + 1) (nI i) a_ctorType a_ctorFirst a_ctorSecond a_typeSize a_typeCtors a_rowFirst a_rowSize a_guardKind a_guardA a_guardB a_clauseFirst a_nodeKind a_nodeArg a_nodePos a_nodeRow a_altOf a_altSide a_nodeNew a_after a_holePos a_holeType a_holeOwner a_holeSide a_clauseRow a_clauseNodes a_clauseTests a_testHead a_clauseBind a_litCount a_lits a_freshInt a_stateMask a_stateOpen a_statePos a_stateNext a_child a_bucketHead a_pin MD a_queue a_val a_valType a_bound := by
    intro d
    induction d with
    | zero =>
      intro i MD hi h1
      have : i = sc := by omega
      subst this
      refine br_t (nI_le (by omega) (by omega)) ?_
      refine xw_enqueue (qt := 0) (s := 0) (a_marked := MD) (a_queue := a_queue) hsc F.1 ⟨fun j hj => by omega, fun s hs hm => absurd (h1 s hs) hm, fun i j _ hj => by omega⟩ (fun q' MD' QU' hE hm => ⟨4375, loop 4374 0 q' MD' QU' (by omega) (by omega) hE.1 (fun s hs hms => ?_) hm (fun j s hj => by omega)⟩)
      rcases hE.2.2.2.2 s hs hms with z | z
      · exact absurd (h1 s hs) z
      · rw [z]; exact hR0
    | succ d ih =>
      intro i MD hi h1
      refine br_f (nI_ge (by omega) (by omega)) ⟨vp_in_nI (by omega) (by omega), nm_r (e' := upd MD i 0) (by rw [nI_clamp (by omega), xq_nb0]) (nm_r (nI_1 i) (ih (i + 1) _ (by omega) (fun s hs => ?_)))⟩
      by_cases q : s = i
      · subst q; exact pk_us
      · rw [pk_un q]; exact h1 s (by omega)
  exact ⟨sc + 1, clear sc 0 a_marked (by omega) (fun s hs => by omega)⟩
end
end
section
def xm_M (N : Nat) (tst : Nat → Nat → Bool) (hd : Nat → Nat → Int32) (rw : Nat → Nat) (sol : Nat → Bool) (goal : Int64) (v : Nat → Int32) : Prop := (goal = 0 ∧ ∀ c, gh_Sel N tst hd rw sol v c → sol c = false) ∨ (goal ≠ 0 ∧ ∃ c, gh_Sel N tst hd rw sol v c ∧ bi_L goal c = true)
theorem xm_iff {N : Nat} {tst : Nat → Nat → Bool} {hd : Nat → Nat → Int32} {rw : Nat → Nat} {sol : Nat → Bool} {goal mask solM : Int64} {v : Nat → Int32} (h1 : ∀ c, bi_L mask c = true ↔ gh_Sel N tst hd rw sol v c) (h2 : ∀ c, bi_L solM c = true ↔ c < N ∧ sol c = true) : xm_LM mask solM goal ↔ xm_M N tst hd rw sol goal v := by
  unfold xm_LM xm_M
  have e1 : (mask &&& solM) = 0 ↔ ∀ c, gh_Sel N tst hd rw sol v c → sol c = false := by
    rw [bi_dis]
    constructor
    · intro h c hc
      have := h c ((h1 c).mpr hc)
      cases hs : sol c with
      | false => rfl
      | true => rw [(h2 c).mpr ⟨hc.1, hs⟩] at this; exact absurd this (by decide)
    · intro h c hc
      have := h c ((h1 c).mp hc)
      cases hs : bi_L solM c with
      | false => rfl
      | true => rw [((h2 c).mp hs).2] at this; exact absurd this (by decide)
  have e2 : ¬ (mask &&& goal) = 0 ↔ ∃ c, gh_Sel N tst hd rw sol v c ∧ bi_L goal c = true := by
    rw [bi_dis]
    constructor
    · intro h
      apply Classical.byContradiction
      intro z
      apply h
      intro c hc
      cases hg : bi_L goal c with
      | false => rfl
      | true => exact absurd ⟨c, (h1 c).mp hc, hg⟩ z
    · rintro ⟨c, c1, c2⟩ h
      rw [h c ((h1 c).mpr c1)] at c2
      exact absurd c2 (by decide)
  rw [e1, e2]
def xp_ok (rt : Int32) (fty : Int32 → Int32 → Nat → Int32) (cn : Nat → Int32 → Nat) (cd : Nat → Int32 → Nat → Int32) (w : Nat → Int32) (P : Nat) (PN : Nat → Int32) : Prop := ∀ q, 1 ≤ q → q ≤ 7 → (q < P → gh_ty rt fty w q ≠ -1 → ∃ i, i < cn q (gh_ty rt fty w q) ∧ PN q = nI i ∧ w q = cd q (gh_ty rt fty w q) i) ∧ (P ≤ q → PN q = -1)
theorem xc_hsol {R G : Nat → Int32} (c c' : Nat) (h : xc_r R c = xc_r R c') : xc_s R G c = xc_s R G c' := by
  unfold xc_r at h; unfold xc_s; rw [h]
section
variable {tt rl rt cc rc nc hlc clc sc qt : Nat} {ph ro misF lr : Int32} {solM livM : Int64} {a_ctorType a_ctorFirst a_ctorSecond a_typeSize a_typeCtors a_rowFirst a_rowSize a_guardKind a_guardA a_guardB a_clauseFirst a_nodeKind a_nodeArg a_nodePos a_nodeRow a_altOf a_altSide a_nodeNew a_after a_holePos a_holeType a_holeOwner a_holeSide a_clauseRow a_clauseTests a_testHead a_clauseBind a_litCount a_lits a_freshInt a_stateOpen a_statePos a_stateNext a_child a_bucketHead a_pin a_marked a_queue a_val a_valType a_bound : Nat → Int32} {a_clauseNodes a_stateMask : Nat → Int64}
theorem xw_goalM {post : Int32 → SX → Prop} {goal : Int64} {P : Nat} {w : Nat → Int32} {okT : Nat → Int32 → Int32 → Prop} (hcc : cc ≤ 12) (hrt : rt ≤ 4) (hF : xc_F cc a_ctorFirst a_ctorSecond) (h5 : gh_C5 clc (xc_t a_clauseTests) (xc_h a_testHead) (nI rt) (xc_f cc a_ctorFirst a_ctorSecond) okT) (hok : ∀ p t x, okT p t x → t ≠ -1) (hcn : ∀ q t c, 2 ≤ q → q ≤ 7 → (xc_f cc a_ctorFirst a_ctorSecond) t c q ≠ -1 → 0 < (xc_n a_litCount a_typeSize) q ((xc_f cc a_ctorFirst a_ctorSecond) t c q)) (hL : xc_L a_litCount a_typeSize) (hinj : sh_inj (xc_n a_litCount a_typeSize) (xc_d a_litCount a_lits a_freshInt a_typeCtors)) (hsolM : ∀ c, bi_L solM c = true ↔ c < clc ∧ xc_s a_clauseRow a_guardKind c = true) (F : xg_Fin clc (xc_t a_clauseTests) (xc_h a_testHead) (xc_r a_clauseRow) (xc_s a_clauseRow a_guardKind) (nI rt) (xc_f cc a_ctorFirst a_ctorSecond) (xc_n a_litCount a_typeSize) (xc_d a_litCount a_lits a_freshInt a_typeCtors) sc a_stateMask a_stateOpen a_statePos a_child) (hp : xp_ok (nI rt) (xc_f cc a_ctorFirst a_ctorSecond) (xc_n a_litCount a_typeSize) (xc_d a_litCount a_lits a_freshInt a_typeCtors) w P a_pin) (hE : ∃ v, gh_Sh (nI rt) (xc_f cc a_ctorFirst a_ctorSecond) (xc_n a_litCount a_typeSize) (xc_d a_litCount a_lits a_freshInt a_typeCtors) v ∧ sh_ag P v w)
    (hT : (∃ v, gh_Sh (nI rt) (xc_f cc a_ctorFirst a_ctorSecond) (xc_n a_litCount a_typeSize) (xc_d a_litCount a_lits a_freshInt a_typeCtors) v ∧ sh_ag P v w ∧ xm_M clc (xc_t a_clauseTests) (xc_h a_testHead) (xc_r a_clauseRow) (xc_s a_clauseRow a_guardKind) goal v) → ∀ qt MD QU, post 1 (nI tt, nI rl, nI rt, ph, nI cc, nI rc, ro, nI nc, nI hlc, nI clc, nI sc, solM, livM, misF, nI qt, lr, a_ctorType, a_ctorFirst, a_ctorSecond, a_typeSize, a_typeCtors, a_rowFirst, a_rowSize, a_guardKind, a_guardA, a_guardB, a_clauseFirst, a_nodeKind, a_nodeArg, a_nodePos, a_nodeRow, a_altOf, a_altSide, a_nodeNew, a_after, a_holePos, a_holeType, a_holeOwner, a_holeSide, a_clauseRow, a_clauseNodes, a_clauseTests, a_testHead, a_clauseBind, a_litCount, a_lits, a_freshInt, a_stateMask, a_stateOpen, a_statePos, a_stateNext, a_child, a_bucketHead, a_pin, MD, QU, a_val, a_valType, a_bound)) (hFl : (¬ ∃ v, gh_Sh (nI rt) (xc_f cc a_ctorFirst a_ctorSecond) (xc_n a_litCount a_typeSize) (xc_d a_litCount a_lits a_freshInt a_typeCtors) v ∧ sh_ag P v w ∧ xm_M clc (xc_t a_clauseTests) (xc_h a_testHead) (xc_r a_clauseRow) (xc_s a_clauseRow a_guardKind) goal v) → ∀ qt MD QU, post 0 (nI tt, nI rl, nI rt, ph, nI cc, nI rc, ro, nI nc, nI hlc, nI clc, nI sc, solM, livM, misF, nI qt, lr, a_ctorType, a_ctorFirst, a_ctorSecond, a_typeSize, a_typeCtors, a_rowFirst, a_rowSize, a_guardKind, a_guardA, a_guardB, a_clauseFirst, a_nodeKind, a_nodeArg, a_nodePos, a_nodeRow, a_altOf, a_altSide, a_nodeNew, a_after, a_holePos, a_holeType, a_holeOwner, a_holeSide, a_clauseRow, a_clauseNodes, a_clauseTests, a_testHead, a_clauseBind, a_litCount, a_lits, a_freshInt, a_stateMask, a_stateOpen, a_statePos, a_stateNext, a_child, a_bucketHead, a_pin, MD, QU, a_val, a_valType, a_bound)) : wpX_goalReachable post (nI tt, nI rl, nI rt, ph, nI cc, nI rc, ro, nI nc, nI hlc, nI clc, nI sc, solM, livM, misF, nI qt, lr, a_ctorType, a_ctorFirst, a_ctorSecond, a_typeSize, a_typeCtors, a_rowFirst, a_rowSize, a_guardKind, a_guardA, a_guardB, a_clauseFirst, a_nodeKind, a_nodeArg, a_nodePos, a_nodeRow, a_altOf, a_altSide, a_nodeNew, a_after, a_holePos, a_holeType, a_holeOwner, a_holeSide, a_clauseRow, a_clauseNodes, a_clauseTests, a_testHead, a_clauseBind, a_litCount, a_lits, a_freshInt, a_stateMask, a_stateOpen, a_statePos, a_stateNext, a_child, a_bucketHead, a_pin, a_marked, a_queue, a_val, a_valType, a_bound) goal := by
  have hrtn : nI rt ≠ -1 := by
    intro z
    have := congrArg Int32.toInt z
    rw [nI_toInt (by omega), show (-1 : Int32).toInt = -1 from by decide] at this
    omega
  have hcn5 := (xc_few hL).2
  refine xw_goal (RP := fun s => gh_Cl clc (xc_t a_clauseTests) (xc_h a_testHead) (xc_r a_clauseRow) (xc_s a_clauseRow a_guardKind) (nI rt) (xc_f cc a_ctorFirst a_ctorSecond) (xc_n a_litCount a_typeSize) (xc_d a_litCount a_lits a_freshInt a_typeCtors) (fun v => sh_ag P v w) (bi_L (a_stateMask s)) (bi_ot (a_stateOpen s))) hL F ?_ ?_ ?_ ?_
  · obtain ⟨v, v1, v2⟩ := hE
    refine gh_cl_red h5 (fun c hc => of_decide_eq_true hc) ⟨v, v1, v2, fun u _ => ⟨fun p p1 p7 hp => ?_, fun c hc => decide_eq_true hc.1, fun c hc p p1 p7 ht => Or.inr ⟨1, by omega, ?_, ?_⟩⟩⟩ F.2.2.2.2
    · by_cases e : p = 1
      · subst e; rfl
      · rw [if_neg e] at hp; exact absurd rfl hp
    · unfold tr_dsc; omega
    · rw [if_pos rfl]; exact hrtn
  · intro s hs hcl p i c p1 p7 ep hop hi hal hch hc
    rcases F.2.2.2.1 s hs with ⟨e1, _⟩ | ⟨p', p1', p7', e1, e2, e3⟩
    · rw [e1] at ep; exact absurd ep.symm (nI_ne0 (by omega) (by omega))
    · rw [e1] at ep
      have := (nI_eq (by omega) (by omega)).mp ep
      subst this
      obtain ⟨c', c1, c2, m1, o1, hsp, hred⟩ := e3 i hi
      have hcc' : c' = c := by
        rw [c2] at hch
        have := F.2.1
        exact (nI_eq (by omega) (by omega)).mp hch
      subst hcc'
      have hSI := F.2.2.1 s hs
      refine gh_cl_red h5 (fun x hx => hSI.1 x ((hsp.1 x).mp hx).1) (gh_cl_spec h5 hok hcn hSI.1 hSI.2.1 p1' p7' rfl e2 hi (fun v0 hv0 hty hag => ?_) hsp hcl) hred
      by_cases q : p' < P
      · left
        have ety := sh_ag_ty (rt := nI rt) (fty := (xc_f cc a_ctorFirst a_ctorSecond)) hag p1' p7' (by omega)
        obtain ⟨j, j1, j2, j3⟩ := (hp p' p1' p7').1 q (by rw [← ety, hty]; exact e2)
        rw [← ety, hty] at j1 j3
        have hij : j = i := by
          have := hcn5 p' (bi_ot (a_stateOpen s) p') p1' p7'
          rcases hal with z | z
          · rw [j2] at z; exact absurd z (nI_pos (by omega))
          · rw [j2] at z; exact (nI_eq (by omega) (by omega)).mp z
        rw [hag p' p1' q, j3, hij]
      · right
        intro x x1 x2
        rw [gh_re_off (by unfold tr_dsc; omega)]
        exact hag x x1 x2
  · intro l qt MD QU l1 hcl l2 l3
    refine hT ?_ qt MD QU
    obtain ⟨v, v1, v2, v3⟩ := gh_cl_good hcl
    refine ⟨v, v1, v2, (xm_iff (fun c => gw_leaf h5 xc_hsol F l1 ?_ v3 c) hsolM).mp l3⟩
    rcases F.2.2.2.1 l l1 with ⟨_, e2⟩ | ⟨p, p1, p7, e1, _⟩
    · exact e2
    · rw [l2] at e1; exact absurd e1.symm (nI_ne0 (by omega) (by omega))
  · intro qt MD QU M h0 hcl hlf
    refine hFl ?_ qt MD QU
    rintro ⟨v, v1, v2, v3⟩
    obtain ⟨g1, g2⟩ := gw_root (v := v) h5 hrtn F
    have hal : ∀ s p i, 1 ≤ p → p ≤ 7 → bi_ot (a_stateOpen s) p ≠ -1 → gh_ty (nI rt) (xc_f cc a_ctorFirst a_ctorSecond) v p = bi_ot (a_stateOpen s) p → i < (xc_n a_litCount a_typeSize) p (bi_ot (a_stateOpen s) p) → v p = (xc_d a_litCount a_lits a_freshInt a_typeCtors) p (bi_ot (a_stateOpen s) p) i → xq_al a_pin p i := by
      intro s p i p1 p7 hop hty hi hvi
      by_cases q : p < P
      · right
        have ety := sh_ag_ty (rt := nI rt) (fty := (xc_f cc a_ctorFirst a_ctorSecond)) v2 p1 p7 (by omega)
        obtain ⟨j, j1, j2, j3⟩ := (hp p p1 p7).1 q (by rw [← ety, hty]; exact hop)
        rw [← ety, hty] at j1 j3
        have : j = i := hinj p _ _ _ p1 p7 hop j1 hi (by rw [← j3, ← hvi]; exact (v2 p p1 q).symm)
        rw [← this]; exact j2
      · left
        rw [(hp p p1 p7).2 (by omega)]; decide
    obtain ⟨l, l1, l2, l3, l4, l5⟩ := gw_walk h5 hok F v1 M (fun s p i hM hs p1 p7 ep hop hty hi hvi c hc hcs => hcl s hs hM p i c p1 p7 ep hop hi (hal s p i p1 p7 hop hty hi hvi) hc hcs) 7 0 F.1 h0 g2 g1
    exact hlf l l1 l2 l3 ((xm_iff (fun c => gw_leaf h5 xc_hsol F l1 l4 l5 c) hsolM).mpr v3)
theorem xw_candHead2 {post : Int32 → Prop} {p k i : Nat} {x : Int32} (hL : xc_L a_litCount a_typeSize) (p1 : 1 ≤ p) (p7 : p ≤ 7) (hk : k ≤ 4) (hx : x = nI i) (hi : i < xc_n a_litCount a_typeSize p (nI k)) (h : post (xc_d a_litCount a_lits a_freshInt a_typeCtors p (nI k) i)) : wpX_candHead post (nI tt, nI rl, nI rt, ph, nI cc, nI rc, ro, nI nc, nI hlc, nI clc, nI sc, solM, livM, misF, nI qt, lr, a_ctorType, a_ctorFirst, a_ctorSecond, a_typeSize, a_typeCtors, a_rowFirst, a_rowSize, a_guardKind, a_guardA, a_guardB, a_clauseFirst, a_nodeKind, a_nodeArg, a_nodePos, a_nodeRow, a_altOf, a_altSide, a_nodeNew, a_after, a_holePos, a_holeType, a_holeOwner, a_holeSide, a_clauseRow, a_clauseNodes, a_clauseTests, a_testHead, a_clauseBind, a_litCount, a_lits, a_freshInt, a_stateMask, a_stateOpen, a_statePos, a_stateNext, a_child, a_bucketHead, a_pin, a_marked, a_queue, a_val, a_valType, a_bound) (nI p) (nI k) x := by
  subst hx; exact xw_candHead hL p1 p7 hk hi h
theorem xw_placeType2 {post : Int32 → Prop} {p : Nat} {r : Int32} (hcc : cc ≤ 12) (p1 : 1 ≤ p) (p7 : p ≤ 7) (hv : xv_r a_valType) (hr : xv_pl rt cc a_ctorFirst a_ctorSecond a_valType a_val p = r) (h : post r) : wpX_placeType post (nI tt, nI rl, nI rt, ph, nI cc, nI rc, ro, nI nc, nI hlc, nI clc, nI sc, solM, livM, misF, nI qt, lr, a_ctorType, a_ctorFirst, a_ctorSecond, a_typeSize, a_typeCtors, a_rowFirst, a_rowSize, a_guardKind, a_guardA, a_guardB, a_clauseFirst, a_nodeKind, a_nodeArg, a_nodePos, a_nodeRow, a_altOf, a_altSide, a_nodeNew, a_after, a_holePos, a_holeType, a_holeOwner, a_holeSide, a_clauseRow, a_clauseNodes, a_clauseTests, a_testHead, a_clauseBind, a_litCount, a_lits, a_freshInt, a_stateMask, a_stateOpen, a_statePos, a_stateNext, a_child, a_bucketHead, a_pin, a_marked, a_queue, a_val, a_valType, a_bound) (nI p) := by
  subst hr; exact xw_placeType hcc p1 p7 hv h
theorem xw_pinFirst {post : SX → Prop} {goal : Int64} {P k : Nat} {okT : Nat → Int32 → Int32 → Prop} (hcc : cc ≤ 12) (hrt : rt ≤ 4) (hF : xc_F cc a_ctorFirst a_ctorSecond) (h5 : gh_C5 clc (xc_t a_clauseTests) (xc_h a_testHead) (nI rt) (xc_f cc a_ctorFirst a_ctorSecond) okT) (hok : ∀ p t x, okT p t x → t ≠ -1) (hcn : ∀ q t c, 2 ≤ q → q ≤ 7 → (xc_f cc a_ctorFirst a_ctorSecond) t c q ≠ -1 → 0 < (xc_n a_litCount a_typeSize) q ((xc_f cc a_ctorFirst a_ctorSecond) t c q)) (hL : xc_L a_litCount a_typeSize) (hinj : sh_inj (xc_n a_litCount a_typeSize) (xc_d a_litCount a_lits a_freshInt a_typeCtors)) (hsolM : ∀ c, bi_L solM c = true ↔ c < clc ∧ xc_s a_clauseRow a_guardKind c = true) (F : xg_Fin clc (xc_t a_clauseTests) (xc_h a_testHead) (xc_r a_clauseRow) (xc_s a_clauseRow a_guardKind) (nI rt) (xc_f cc a_ctorFirst a_ctorSecond) (xc_n a_litCount a_typeSize) (xc_d a_litCount a_lits a_freshInt a_typeCtors) sc a_stateMask a_stateOpen a_statePos a_child) (P1 : 1 ≤ P) (P7 : P ≤ 7) (hk : k ≤ 4) (hty : gh_ty (nI rt) (xc_f cc a_ctorFirst a_ctorSecond) a_val P = nI k) (hp : xp_ok (nI rt) (xc_f cc a_ctorFirst a_ctorSecond) (xc_n a_litCount a_typeSize) (xc_d a_litCount a_lits a_freshInt a_typeCtors) a_val P a_pin) (hE : ∃ v, gh_Sh (nI rt) (xc_f cc a_ctorFirst a_ctorSecond) (xc_n a_litCount a_typeSize) (xc_d a_litCount a_lits a_freshInt a_typeCtors) v ∧ sh_ag P v a_val ∧ xm_M clc (xc_t a_clauseTests) (xc_h a_testHead) (xc_r a_clauseRow) (xc_s a_clauseRow a_guardKind) goal v)
    (h : ∀ i qt MD QU, i < (xc_n a_litCount a_typeSize) P (nI k) → (∃ v, gh_Sh (nI rt) (xc_f cc a_ctorFirst a_ctorSecond) (xc_n a_litCount a_typeSize) (xc_d a_litCount a_lits a_freshInt a_typeCtors) v ∧ sh_ag P v a_val ∧ v P = (xc_d a_litCount a_lits a_freshInt a_typeCtors) P (nI k) i ∧ xm_M clc (xc_t a_clauseTests) (xc_h a_testHead) (xc_r a_clauseRow) (xc_s a_clauseRow a_guardKind) goal v) → (∀ i', i' < i → ¬ ∃ v, gh_Sh (nI rt) (xc_f cc a_ctorFirst a_ctorSecond) (xc_n a_litCount a_typeSize) (xc_d a_litCount a_lits a_freshInt a_typeCtors) v ∧ sh_ag P v a_val ∧ v P = (xc_d a_litCount a_lits a_freshInt a_typeCtors) P (nI k) i' ∧ xm_M clc (xc_t a_clauseTests) (xc_h a_testHead) (xc_r a_clauseRow) (xc_s a_clauseRow a_guardKind) goal v) → post (nI tt, nI rl, nI rt, ph, nI cc, nI rc, ro, nI nc, nI hlc, nI clc, nI sc, solM, livM, misF, nI qt, lr, a_ctorType, a_ctorFirst, a_ctorSecond, a_typeSize, a_typeCtors, a_rowFirst, a_rowSize, a_guardKind, a_guardA, a_guardB, a_clauseFirst, a_nodeKind, a_nodeArg, a_nodePos, a_nodeRow, a_altOf, a_altSide, a_nodeNew, a_after, a_holePos, a_holeType, a_holeOwner, a_holeSide, a_clauseRow, a_clauseNodes, a_clauseTests, a_testHead, a_clauseBind, a_litCount, a_lits, a_freshInt, a_stateMask, a_stateOpen, a_statePos, a_stateNext, a_child, a_bucketHead, upd a_pin P (nI i), MD, QU, a_val, a_valType, a_bound)) : wpX_pinFirst post (nI tt, nI rl, nI rt, ph, nI cc, nI rc, ro, nI nc, nI hlc, nI clc, nI sc, solM, livM, misF, nI qt, lr, a_ctorType, a_ctorFirst, a_ctorSecond, a_typeSize, a_typeCtors, a_rowFirst, a_rowSize, a_guardKind, a_guardA, a_guardB, a_clauseFirst, a_nodeKind, a_nodeArg, a_nodePos, a_nodeRow, a_altOf, a_altSide, a_nodeNew, a_after, a_holePos, a_holeType, a_holeOwner, a_holeSide, a_clauseRow, a_clauseNodes, a_clauseTests, a_testHead, a_clauseBind, a_litCount, a_lits, a_freshInt, a_stateMask, a_stateOpen, a_statePos, a_stateNext, a_child, a_bucketHead, a_pin, a_marked, a_queue, a_val, a_valType, a_bound) (nI P) (nI k) goal := by
  have hkn : nI k ≠ -1 := by
    intro z
    have := congrArg Int32.toInt z
    rw [nI_toInt (by omega), show (-1 : Int32).toInt = -1 from by decide] at this
    omega
  have hn5 : (xc_n a_litCount a_typeSize) P (nI k) ≤ 5 := (xc_few hL).2 P _ P1 P7
  -- agreement with the pinned value
  have agw : ∀ i v, sh_ag (P + 1) v (upd a_val P ((xc_d a_litCount a_lits a_freshInt a_typeCtors) P (nI k) i)) ↔ sh_ag P v a_val ∧ v P = (xc_d a_litCount a_lits a_freshInt a_typeCtors) P (nI k) i := by
    intro i v
    constructor
    · intro z
      refine ⟨fun q q1 q2 => ?_, ?_⟩
      · have := z q q1 (by omega); rw [pk_un (by omega)] at this; exact this
      · have := z P P1 (by omega); rw [pk_us] at this; exact this
    · rintro ⟨z1, z2⟩ q q1 q2
      by_cases e : q = P
      · subst e; rw [pk_us]; exact z2
      · rw [pk_un e]; exact z1 q q1 (by omega)
  have tyw : ∀ i q, 1 ≤ q → q ≤ P → gh_ty (nI rt) (xc_f cc a_ctorFirst a_ctorSecond) (upd a_val P ((xc_d a_litCount a_lits a_freshInt a_typeCtors) P (nI k) i)) q = gh_ty (nI rt) (xc_f cc a_ctorFirst a_ctorSecond) a_val q := fun i q q1 q2 => gh_tyeq q1 (by omega) (fun a a1 a2 _ => pk_un (by omega))
  have loop : ∀ d i qt PN MD QU, i + d = (xc_n a_litCount a_typeSize) P (nI k) → (∀ x, x ≠ P → PN x = a_pin x) → (∀ i', i' < i → ¬ ∃ v, gh_Sh (nI rt) (xc_f cc a_ctorFirst a_ctorSecond) (xc_n a_litCount a_typeSize) (xc_d a_litCount a_lits a_freshInt a_typeCtors) v ∧ sh_ag P v a_val ∧ v P = (xc_d a_litCount a_lits a_freshInt a_typeCtors) P (nI k) i' ∧ xm_M clc (xc_t a_clauseTests) (xc_h a_testHead) (xc_r a_clauseRow) (xc_s a_clauseRow a_guardKind) goal v) →
      wX_pinFirst_11 post (nI P) goal (nI ((xc_n a_litCount a_typeSize) P (nI k))) (d + 1) (nI i) (nI tt) (nI rl) (nI rt) ph (nI cc) (nI rc) ro (nI nc) (nI hlc) (nI clc) (nI sc) solM livM misF (nI qt) lr a_ctorType a_ctorFirst a_ctorSecond a_typeSize a_typeCtors a_rowFirst a_rowSize a_guardKind a_guardA a_guardB a_clauseFirst a_nodeKind a_nodeArg a_nodePos a_nodeRow a_altOf a_altSide a_nodeNew a_after a_holePos a_holeType a_holeOwner a_holeSide a_clauseRow a_clauseNodes a_clauseTests a_testHead a_clauseBind a_litCount a_lits a_freshInt a_stateMask a_stateOpen a_statePos a_stateNext a_child a_bucketHead PN MD QU a_val a_valType a_bound := by
    intro d
    induction d with
    | zero =>
      intro i qt PN MD QU hi hPN hno
      exfalso
      obtain ⟨v, v1, v2, v3⟩ := hE
      have ety := sh_ag_ty (rt := nI rt) (fty := (xc_f cc a_ctorFirst a_ctorSecond)) v2 P1 P7 (by omega)
      obtain ⟨j, j1, j2⟩ := (v1 P P1 P7).2 (by rw [ety, hty]; exact hkn)
      rw [ety, hty] at j1 j2
      exact hno j (by omega) ⟨v, v1, v2, j2, v3⟩
    | succ d ih =>
      intro i qt PN MD QU hi hPN hno
      have eP : upd PN P (nI i) = upd a_pin P (nI i) := by
        funext x
        by_cases q : x = P
        · subst q; rw [pk_us, pk_us]
        · rw [pk_un q, pk_un q]; exact hPN x q
      refine br_f (nI_ge (by omega) (by omega)) ⟨vp_in_nI (by omega) (by omega), nm_r (e' := upd a_pin P (nI i)) (by rw [nI_clamp (by omega)]; exact eP) ?_⟩
      refine xw_goalM (P := P + 1) (w := upd a_val P ((xc_d a_litCount a_lits a_freshInt a_typeCtors) P (nI k) i)) hcc hrt hF h5 hok hcn hL hinj hsolM F (fun q q1 q7 => ⟨fun q2 hq => ?_, fun q2 => ?_⟩) ?_ (fun hx qt' MD' QU' => br_f (by decide) (h i qt' MD' QU' (by omega) ?_ hno)) (fun hx qt' MD' QU' => br_t rfl (nm_r (nI_1 i) (ih (i + 1) qt' _ MD' QU' (by omega) (fun x hx' => pk_un hx') (lt_s hno ?_))))
      · rw [tyw i q q1 (by omega)] at hq ⊢
        by_cases e : q = P
        · subst e
          rw [hty]
          exact ⟨i, by omega, pk_us, pk_us⟩
        · rw [pk_un e, pk_un e]
          exact (hp q q1 q7).1 (by omega) hq
      · rw [pk_un (by omega)]; exact (hp q q1 q7).2 (by omega)
      · obtain ⟨v, v1, v2, v3⟩ := hE
        have ety := sh_ag_ty (rt := nI rt) (fty := (xc_f cc a_ctorFirst a_ctorSecond)) v2 P1 P7 (by omega)
        refine ⟨gh_re (xc_f cc a_ctorFirst a_ctorSecond) (xc_d a_litCount a_lits a_freshInt a_typeCtors) v P (gh_ty (nI rt) (xc_f cc a_ctorFirst a_ctorSecond) v P) ((xc_d a_litCount a_lits a_freshInt a_typeCtors) P (gh_ty (nI rt) (xc_f cc a_ctorFirst a_ctorSecond) v P) i), gh_re_Sh (fun q q1 q7 _ => v1 q q1 q7) hcn P1 P7 (by rw [ety, hty]; exact hkn) (by rw [ety, hty]; omega), (agw i _).mpr ⟨fun q q1 q2 => ?_, ?_⟩⟩
        · rw [gh_re_off (by unfold tr_dsc; omega)]; exact v2 q q1 q2
        · rw [gh_re_at, ety, hty]
      · obtain ⟨v, v1, v2, v3⟩ := hx
        exact ⟨v, v1, ((agw i v).mp v2).1, ((agw i v).mp v2).2, v3⟩
      · rintro ⟨v, v1, v2, v3, v4⟩
        exact hx ⟨v, v1, (agw i v).mpr ⟨v2, v3⟩, v4⟩
  unfold wpX_pinFirst
  dsimp only
  exact xw_candCount hL P1 P7 hk ⟨_, loop ((xc_n a_litCount a_typeSize) P (nI k)) 0 qt a_pin a_marked a_queue (by omega) (fun _ _ => rfl) (fun i' hi' => by omega)⟩
def xs_I (rt : Int32) (fty : Int32 → Int32 → Nat → Int32) (cn : Nat → Int32 → Nat) (cd : Nat → Int32 → Nat → Int32) (M : (Nat → Int32) → Prop) (P : Nat) (PN V VT : Nat → Int32) : Prop :=
  (∀ q, 1 ≤ q → q ≤ 7 → (q < P → VT q = gh_ty rt fty V q) ∧ (P ≤ q → VT q = -1 ∧ V q = 0)) ∧ (∃ v, gh_Sh rt fty cn cd v ∧ sh_ag P v V ∧ M v) ∧ xp_ok rt fty cn cd V P PN ∧
  (∀ u, gh_Sh rt fty cn cd u → M u → ∀ p, 1 ≤ p → p < P → sh_ag p u V → gh_ty rt fty V p ≠ -1 → ∀ i j, i < j → j < cn p (gh_ty rt fty V p) → u p = cd p (gh_ty rt fty V p) i → V p = cd p (gh_ty rt fty V p) j → False)
theorem xs_tyr (hcc : cc ≤ 12) (hrt : rt ≤ 4) (hF : xc_F cc a_ctorFirst a_ctorSecond) (V : Nat → Int32) (q : Nat) : gh_ty (nI rt) (xc_f cc a_ctorFirst a_ctorSecond) V q = -1 ∨ ∃ k, k ≤ 4 ∧ gh_ty (nI rt) (xc_f cc a_ctorFirst a_ctorSecond) V q = nI k := by
  unfold gh_ty
  split
  · exact Or.inr ⟨rt, hrt, rfl⟩
  · split
    · by_cases z : (xc_f cc a_ctorFirst a_ctorSecond) (nI rt) (V 1) q = -1
      · exact Or.inl z
      · exact Or.inr (xc_f_ty hF hcc z)
    · by_cases z : (xc_f cc a_ctorFirst a_ctorSecond) ((xc_f cc a_ctorFirst a_ctorSecond) (nI rt) (V 1) (q / 2)) (V (q / 2)) q = -1
      · exact Or.inl z
      · exact Or.inr (xc_f_ty hF hcc z)
theorem xs_pl {goal : Int64} {P : Nat} {PN V VT : Nat → Int32} (hcc : cc ≤ 12) (hrt : rt ≤ 4) (hF : xc_F cc a_ctorFirst a_ctorSecond) (P1 : 1 ≤ P) (P7 : P ≤ 7) (hI : xs_I (nI rt) (xc_f cc a_ctorFirst a_ctorSecond) (xc_n a_litCount a_typeSize) (xc_d a_litCount a_lits a_freshInt a_typeCtors) (xm_M clc (xc_t a_clauseTests) (xc_h a_testHead) (xc_r a_clauseRow) (xc_s a_clauseRow a_guardKind) goal) P PN V VT) : xv_pl rt cc a_ctorFirst a_ctorSecond VT V P = gh_ty (nI rt) (xc_f cc a_ctorFirst a_ctorSecond) V P ∧ xv_r VT := by
  obtain ⟨i1, i2, i3, i4⟩ := hI
  constructor
  · unfold xv_pl
    by_cases e : P = 1
    · subst e; rw [if_pos rfl, gh_ty1]
    · rw [if_neg e, gh_ty_step (by omega) (by omega), (i1 (P / 2) (by omega) (by omega)).1 (by omega)]
  · intro q q1 q7
    by_cases z : q < P
    · rw [(i1 q q1 q7).1 z]; exact xs_tyr hcc hrt hF V q
    · exact Or.inl ((i1 q q1 q7).2 (by omega)).1
/-- the invariant over an absent position -/
theorem xs_abs {goal : Int64} {P : Nat} {PN V VT : Nat → Int32} (P1 : 1 ≤ P) (P7 : P ≤ 7) (hI : xs_I (nI rt) (xc_f cc a_ctorFirst a_ctorSecond) (xc_n a_litCount a_typeSize) (xc_d a_litCount a_lits a_freshInt a_typeCtors) (xm_M clc (xc_t a_clauseTests) (xc_h a_testHead) (xc_r a_clauseRow) (xc_s a_clauseRow a_guardKind) goal) P PN V VT) (z : gh_ty (nI rt) (xc_f cc a_ctorFirst a_ctorSecond) V P = -1) : xs_I (nI rt) (xc_f cc a_ctorFirst a_ctorSecond) (xc_n a_litCount a_typeSize) (xc_d a_litCount a_lits a_freshInt a_typeCtors) (xm_M clc (xc_t a_clauseTests) (xc_h a_testHead) (xc_r a_clauseRow) (xc_s a_clauseRow a_guardKind) goal) (P + 1) PN V VT := by
  obtain ⟨i1, i2, i3, i4⟩ := hI
  have iP := (i1 P P1 (by omega)).2 (Nat.le_refl _)
  refine ⟨fun q q1 q7 => ⟨fun q2 => ?_, fun q2 => (i1 q q1 q7).2 (by omega)⟩, ?_, fun q q1 q7 => ⟨fun q2 hq => ?_, fun q2 => (i3 q q1 q7).2 (by omega)⟩, ?_⟩
  · by_cases e : q = P
    · subst e; rw [iP.1, z]
    · exact (i1 q q1 q7).1 (by omega)
  · obtain ⟨v, v1, v2, v3⟩ := i2
    refine ⟨v, v1, fun q q1 q2 => ?_, v3⟩
    by_cases e : q = P
    · subst e
      have ety := sh_ag_ty (rt := nI rt) (fty := (xc_f cc a_ctorFirst a_ctorSecond)) v2 P1 (by omega) (by omega)
      rw [iP.2]
      exact (v1 q q1 (by omega)).1 (by rw [ety]; exact z)
    · exact v2 q q1 (by omega)
  · by_cases e : q = P
    · subst e; exact absurd z hq
    · exact (i3 q q1 q7).1 (by omega) hq
  · intro u u1 u2 p p1 p2 ag ht i j ij j1 ui vj
    by_cases e : p = P
    · subst e; exact ht z
    · exact i4 u u1 u2 p p1 (by omega) ag ht i j ij j1 ui vj
theorem xs_pres {goal : Int64} {P k i : Nat} {PN V VT : Nat → Int32} (hinj : sh_inj (xc_n a_litCount a_typeSize) (xc_d a_litCount a_lits a_freshInt a_typeCtors)) (P1 : 1 ≤ P) (P7 : P ≤ 7) (hI : xs_I (nI rt) (xc_f cc a_ctorFirst a_ctorSecond) (xc_n a_litCount a_typeSize) (xc_d a_litCount a_lits a_freshInt a_typeCtors) (xm_M clc (xc_t a_clauseTests) (xc_h a_testHead) (xc_r a_clauseRow) (xc_s a_clauseRow a_guardKind) goal) P PN V VT) (ek : gh_ty (nI rt) (xc_f cc a_ctorFirst a_ctorSecond) V P = nI k) (hi : i < (xc_n a_litCount a_typeSize) P (nI k)) (hyes : ∃ v, gh_Sh (nI rt) (xc_f cc a_ctorFirst a_ctorSecond) (xc_n a_litCount a_typeSize) (xc_d a_litCount a_lits a_freshInt a_typeCtors) v ∧ sh_ag P v V ∧ v P = (xc_d a_litCount a_lits a_freshInt a_typeCtors) P (nI k) i ∧ xm_M clc (xc_t a_clauseTests) (xc_h a_testHead) (xc_r a_clauseRow) (xc_s a_clauseRow a_guardKind) goal v) (hno : ∀ i', i' < i → ¬ ∃ v, gh_Sh (nI rt) (xc_f cc a_ctorFirst a_ctorSecond) (xc_n a_litCount a_typeSize) (xc_d a_litCount a_lits a_freshInt a_typeCtors) v ∧ sh_ag P v V ∧ v P = (xc_d a_litCount a_lits a_freshInt a_typeCtors) P (nI k) i' ∧ xm_M clc (xc_t a_clauseTests) (xc_h a_testHead) (xc_r a_clauseRow) (xc_s a_clauseRow a_guardKind) goal v) : xs_I (nI rt) (xc_f cc a_ctorFirst a_ctorSecond) (xc_n a_litCount a_typeSize) (xc_d a_litCount a_lits a_freshInt a_typeCtors) (xm_M clc (xc_t a_clauseTests) (xc_h a_testHead) (xc_r a_clauseRow) (xc_s a_clauseRow a_guardKind) goal) (P + 1) (upd PN P (nI i)) (upd V P ((xc_d a_litCount a_lits a_freshInt a_typeCtors) P (nI k) i)) (upd VT P (nI k)) := by
  obtain ⟨i1, i2, i3, i4⟩ := hI
  have tyw : ∀ q, 1 ≤ q → q ≤ P → gh_ty (nI rt) (xc_f cc a_ctorFirst a_ctorSecond) (upd V P ((xc_d a_litCount a_lits a_freshInt a_typeCtors) P (nI k) i)) q = gh_ty (nI rt) (xc_f cc a_ctorFirst a_ctorSecond) V q := fun q q1 q2 => gh_tyeq q1 (by omega) (fun a a1 a2 _ => pk_un (by omega))
  refine ⟨fun q q1 q7 => ⟨fun q2 => ?_, fun q2 => ?_⟩, ?_, fun q q1 q7 => ⟨fun q2 hq => ?_, fun q2 => ?_⟩, ?_⟩
  · rw [tyw q q1 (by omega)]
    by_cases e : q = P
    · subst e; rw [pk_us, ek]
    · rw [pk_un e]; exact (i1 q q1 q7).1 (by omega)
  · rw [pk_un (by omega), pk_un (by omega)]; exact (i1 q q1 q7).2 (by omega)
  · obtain ⟨v, v1, v2, v3, v4⟩ := hyes
    refine ⟨v, v1, fun q q1 q2 => ?_, v4⟩
    by_cases e : q = P
    · subst e; rw [pk_us]; exact v3
    · rw [pk_un e]; exact v2 q q1 (by omega)
  · rw [tyw q q1 (by omega)] at hq ⊢
    by_cases e : q = P
    · subst e; rw [ek]; exact ⟨i, hi, pk_us, pk_us⟩
    · rw [pk_un e, pk_un e]; exact (i3 q q1 q7).1 (by omega) hq
  · rw [pk_un (by omega)]; exact (i3 q q1 q7).2 (by omega)
  · intro u u1 u2 p p1 p2 ag ht a b ab b1 ua vb
    rw [tyw p p1 (by omega)] at ht b1 ua vb
    have ag' : sh_ag p u V := fun q q1 q2 => by rw [ag q q1 q2, pk_un (by omega)]
    by_cases e : p = P
    · subst e
      rw [pk_us, ek] at vb
      rw [ek] at b1 ua ht
      have : i = b := hinj p _ _ _ p1 (by omega) ht hi b1 vb
      exact hno a (by omega) ⟨u, u1, ag', ua, u2⟩
    · rw [pk_un e] at vb
      exact i4 u u1 u2 p p1 (by omega) ag' ht a b ab b1 ua vb
theorem xw_load28s {post : SX → Prop} {goal : Int64} {n P qt : Nat} {okT : Nat → Int32 → Int32 → Prop} (hcc : cc ≤ 12) (hrt : rt ≤ 4) (hF : xc_F cc a_ctorFirst a_ctorSecond) (h5 : gh_C5 clc (xc_t a_clauseTests) (xc_h a_testHead) (nI rt) (xc_f cc a_ctorFirst a_ctorSecond) okT) (hok : ∀ p t x, okT p t x → t ≠ -1) (hcn : ∀ q t c, 2 ≤ q → q ≤ 7 → (xc_f cc a_ctorFirst a_ctorSecond) t c q ≠ -1 → 0 < (xc_n a_litCount a_typeSize) q ((xc_f cc a_ctorFirst a_ctorSecond) t c q)) (hL : xc_L a_litCount a_typeSize) (hinj : sh_inj (xc_n a_litCount a_typeSize) (xc_d a_litCount a_lits a_freshInt a_typeCtors)) (hsolM : ∀ c, bi_L solM c = true ↔ c < clc ∧ xc_s a_clauseRow a_guardKind c = true) (F : xg_Fin clc (xc_t a_clauseTests) (xc_h a_testHead) (xc_r a_clauseRow) (xc_s a_clauseRow a_guardKind) (nI rt) (xc_f cc a_ctorFirst a_ctorSecond) (xc_n a_litCount a_typeSize) (xc_d a_litCount a_lits a_freshInt a_typeCtors) sc a_stateMask a_stateOpen a_statePos a_child) (P1 : 1 ≤ P) (P7 : P ≤ 7) (hI : xs_I (nI rt) (xc_f cc a_ctorFirst a_ctorSecond) (xc_n a_litCount a_typeSize) (xc_d a_litCount a_lits a_freshInt a_typeCtors) (xm_M clc (xc_t a_clauseTests) (xc_h a_testHead) (xc_r a_clauseRow) (xc_s a_clauseRow a_guardKind) goal) P a_pin a_val a_valType)
    (ih : ∀ qt PN MD QU V VT, xs_I (nI rt) (xc_f cc a_ctorFirst a_ctorSecond) (xc_n a_litCount a_typeSize) (xc_d a_litCount a_lits a_freshInt a_typeCtors) (xm_M clc (xc_t a_clauseTests) (xc_h a_testHead) (xc_r a_clauseRow) (xc_s a_clauseRow a_guardKind) goal) (P + 1) PN V VT → wX_loadSmallest_28 post goal n (nI (P + 1)) (nI tt) (nI rl) (nI rt) ph (nI cc) (nI rc) ro (nI nc) (nI hlc) (nI clc) (nI sc) solM livM misF (nI qt) lr a_ctorType a_ctorFirst a_ctorSecond a_typeSize a_typeCtors a_rowFirst a_rowSize a_guardKind a_guardA a_guardB a_clauseFirst a_nodeKind a_nodeArg a_nodePos a_nodeRow a_altOf a_altSide a_nodeNew a_after a_holePos a_holeType a_holeOwner a_holeSide a_clauseRow a_clauseNodes a_clauseTests a_testHead a_clauseBind a_litCount a_lits a_freshInt a_stateMask a_stateOpen a_statePos a_stateNext a_child a_bucketHead PN MD QU V VT a_bound) : wX_loadSmallest_28 post goal (n + 1) (nI P) (nI tt) (nI rl) (nI rt) ph (nI cc) (nI rc) ro (nI nc) (nI hlc) (nI clc) (nI sc) solM livM misF (nI qt) lr a_ctorType a_ctorFirst a_ctorSecond a_typeSize a_typeCtors a_rowFirst a_rowSize a_guardKind a_guardA a_guardB a_clauseFirst a_nodeKind a_nodeArg a_nodePos a_nodeRow a_altOf a_altSide a_nodeNew a_after a_holePos a_holeType a_holeOwner a_holeSide a_clauseRow a_clauseNodes a_clauseTests a_testHead a_clauseBind a_litCount a_lits a_freshInt a_stateMask a_stateOpen a_statePos a_stateNext a_child a_bucketHead a_pin a_marked a_queue a_val a_valType a_bound := by
  obtain ⟨hpl, hvr⟩ := xs_pl hcc hrt hF P1 P7 hI
  have wP : vp_in (nI P) 8 := vp_in_nI (by omega) (by omega)
  have eP : (nI P).toNatClampNeg = P := nI_clamp (by omega)
  rw [wX_loadSmallest_28]
  refine br_f (nI_ge (a := P) (b := 8) (by omega) (by omega)) ?_
  rcases xs_tyr hcc hrt hF a_val P with z | ⟨k, k4, ek⟩
  · exact xw_placeType2 hcc P1 P7 hvr (hpl.trans z) (br_t rfl (nm_r (nI_1 P) (ih qt a_pin a_marked a_queue a_val a_valType (xs_abs P1 P7 hI z))))
  · have hkn : ¬ nI k = -1 := by
      intro y
      have := congrArg Int32.toInt y
      rw [nI_toInt (by omega), show (-1 : Int32).toInt = -1 from by decide] at this
      omega
    refine xw_placeType2 hcc P1 P7 hvr (hpl.trans ek) (br_f hkn ?_)
    refine xw_pinFirst (okT := okT) hcc hrt hF h5 hok hcn hL hinj hsolM F P1 P7 k4 ek hI.2.2.1 hI.2.1 (fun i qt' MD' QU' hi hyes hno => ?_)
    refine ⟨wP, xw_candHead2 (i := i) hL P1 P7 k4 (by rw [eP, pk_us]) hi ?_⟩
    exact ⟨wP, nm_r (e' := upd a_val P ((xc_d a_litCount a_lits a_freshInt a_typeCtors) P (nI k) i)) (by rw [eP]) ⟨wP, nm_r (e' := upd a_valType P (nI k)) (by rw [eP]) (nm_r (nI_1 P) (ih qt' _ MD' QU' _ _ (xs_pres hinj P1 P7 hI ek hi hyes hno)))⟩⟩
theorem xw_load28 {post : SX → Prop} {goal : Int64} {okT : Nat → Int32 → Int32 → Prop} (hcc : cc ≤ 12) (hrt : rt ≤ 4) (hF : xc_F cc a_ctorFirst a_ctorSecond) (h5 : gh_C5 clc (xc_t a_clauseTests) (xc_h a_testHead) (nI rt) (xc_f cc a_ctorFirst a_ctorSecond) okT) (hok : ∀ p t x, okT p t x → t ≠ -1) (hcn : ∀ q t c, 2 ≤ q → q ≤ 7 → (xc_f cc a_ctorFirst a_ctorSecond) t c q ≠ -1 → 0 < (xc_n a_litCount a_typeSize) q ((xc_f cc a_ctorFirst a_ctorSecond) t c q)) (hL : xc_L a_litCount a_typeSize) (hinj : sh_inj (xc_n a_litCount a_typeSize) (xc_d a_litCount a_lits a_freshInt a_typeCtors)) (hsolM : ∀ c, bi_L solM c = true ↔ c < clc ∧ xc_s a_clauseRow a_guardKind c = true) (F : xg_Fin clc (xc_t a_clauseTests) (xc_h a_testHead) (xc_r a_clauseRow) (xc_s a_clauseRow a_guardKind) (nI rt) (xc_f cc a_ctorFirst a_ctorSecond) (xc_n a_litCount a_typeSize) (xc_d a_litCount a_lits a_freshInt a_typeCtors) sc a_stateMask a_stateOpen a_statePos a_child)
    (h : ∀ qt PN MD QU V VT, gh_Sh (nI rt) (xc_f cc a_ctorFirst a_ctorSecond) (xc_n a_litCount a_typeSize) (xc_d a_litCount a_lits a_freshInt a_typeCtors) V → xm_M clc (xc_t a_clauseTests) (xc_h a_testHead) (xc_r a_clauseRow) (xc_s a_clauseRow a_guardKind) goal V → (∀ u, gh_Sh (nI rt) (xc_f cc a_ctorFirst a_ctorSecond) (xc_n a_litCount a_typeSize) (xc_d a_litCount a_lits a_freshInt a_typeCtors) u → xm_M clc (xc_t a_clauseTests) (xc_h a_testHead) (xc_r a_clauseRow) (xc_s a_clauseRow a_guardKind) goal u → ¬ sh_lt (nI rt) (xc_f cc a_ctorFirst a_ctorSecond) (xc_n a_litCount a_typeSize) (xc_d a_litCount a_lits a_freshInt a_typeCtors) u V) → (∀ q, 1 ≤ q → q ≤ 7 → VT q = gh_ty (nI rt) (xc_f cc a_ctorFirst a_ctorSecond) V q) → post (nI tt, nI rl, nI rt, ph, nI cc, nI rc, ro, nI nc, nI hlc, nI clc, nI sc, solM, livM, misF, nI qt, lr, a_ctorType, a_ctorFirst, a_ctorSecond, a_typeSize, a_typeCtors, a_rowFirst, a_rowSize, a_guardKind, a_guardA, a_guardB, a_clauseFirst, a_nodeKind, a_nodeArg, a_nodePos, a_nodeRow, a_altOf, a_altSide, a_nodeNew, a_after, a_holePos, a_holeType, a_holeOwner, a_holeSide, a_clauseRow, a_clauseNodes, a_clauseTests, a_testHead, a_clauseBind, a_litCount, a_lits, a_freshInt, a_stateMask, a_stateOpen, a_statePos, a_stateNext, a_child, a_bucketHead, PN, MD, QU, V, VT, a_bound)) (hMc : ∀ u v, sh_ag 8 u v → xm_M clc (xc_t a_clauseTests) (xc_h a_testHead) (xc_r a_clauseRow) (xc_s a_clauseRow a_guardKind) goal u → xm_M clc (xc_t a_clauseTests) (xc_h a_testHead) (xc_r a_clauseRow) (xc_s a_clauseRow a_guardKind) goal v) :
    ∀ d P qt PN MD QU V VT, P + d = 8 → 1 ≤ P → xs_I (nI rt) (xc_f cc a_ctorFirst a_ctorSecond) (xc_n a_litCount a_typeSize) (xc_d a_litCount a_lits a_freshInt a_typeCtors) (xm_M clc (xc_t a_clauseTests) (xc_h a_testHead) (xc_r a_clauseRow) (xc_s a_clauseRow a_guardKind) goal) P PN V VT → wX_loadSmallest_28 post goal (d + 1) (nI P) (nI tt) (nI rl) (nI rt) ph (nI cc) (nI rc) ro (nI nc) (nI hlc) (nI clc) (nI sc) solM livM misF (nI qt) lr a_ctorType a_ctorFirst a_ctorSecond a_typeSize a_typeCtors a_rowFirst a_rowSize a_guardKind a_guardA a_guardB a_clauseFirst a_nodeKind a_nodeArg a_nodePos a_nodeRow a_altOf a_altSide a_nodeNew a_after a_holePos a_holeType a_holeOwner a_holeSide a_clauseRow a_clauseNodes a_clauseTests a_testHead a_clauseBind a_litCount a_lits a_freshInt a_stateMask a_stateOpen a_statePos a_stateNext a_child a_bucketHead PN MD QU V VT a_bound := by
  intro d
  induction d with
  | zero =>
    intro P qt PN MD QU V VT hP P1 hI
    have : P = 8 := by omega
    subst this
    obtain ⟨i1, ⟨v, v1, v2, v3⟩, i3, i4⟩ := hI
    refine br_t (nI_le (a := 8) (b := 8) (by omega) (by omega)) (h qt PN MD QU V VT ?_ (hMc v V v2 v3) ?_ (fun q q1 q7 => (i1 q q1 q7).1 (by omega)))
    · intro p p1 p7
      have ety := gh_tyeq (rt := nI rt) (fty := (xc_f cc a_ctorFirst a_ctorSecond)) (v := V) (w := v) p1 p7 (fun a a1 a2 _ => (v2 a a1 (by omega)).symm)
      rw [ety, ← v2 p p1 (by omega)]
      exact v1 p p1 p7
    · rintro u u1 u2 ⟨p, p1, p7, ag, ht, i, j, ij, j1, ui, vj⟩
      exact i4 u u1 u2 p p1 (by omega) ag ht i j ij j1 ui vj
  | succ d ih =>
    intro P qt PN MD QU V VT hP P1 hI
    exact xw_load28s (okT := okT) hcc hrt hF h5 hok hcn hL hinj hsolM F P1 (by omega) hI (fun qt' PN' MD' QU' V' VT' hI' => ih (P + 1) qt' PN' MD' QU' V' VT' (by omega) (by omega) hI')
theorem xw_unset {post : SX → Prop} {p : Nat} (p7 : p ≤ 7) (h : post (nI tt, nI rl, nI rt, ph, nI cc, nI rc, ro, nI nc, nI hlc, nI clc, nI sc, solM, livM, misF, nI qt, lr, a_ctorType, a_ctorFirst, a_ctorSecond, a_typeSize, a_typeCtors, a_rowFirst, a_rowSize, a_guardKind, a_guardA, a_guardB, a_clauseFirst, a_nodeKind, a_nodeArg, a_nodePos, a_nodeRow, a_altOf, a_altSide, a_nodeNew, a_after, a_holePos, a_holeType, a_holeOwner, a_holeSide, a_clauseRow, a_clauseNodes, a_clauseTests, a_testHead, a_clauseBind, a_litCount, a_lits, a_freshInt, a_stateMask, a_stateOpen, a_statePos, a_stateNext, a_child, a_bucketHead, a_pin, a_marked, a_queue, upd a_val p 0, upd a_valType p (-1), a_bound)) : wpX_unset post (nI tt, nI rl, nI rt, ph, nI cc, nI rc, ro, nI nc, nI hlc, nI clc, nI sc, solM, livM, misF, nI qt, lr, a_ctorType, a_ctorFirst, a_ctorSecond, a_typeSize, a_typeCtors, a_rowFirst, a_rowSize, a_guardKind, a_guardA, a_guardB, a_clauseFirst, a_nodeKind, a_nodeArg, a_nodePos, a_nodeRow, a_altOf, a_altSide, a_nodeNew, a_after, a_holePos, a_holeType, a_holeOwner, a_holeSide, a_clauseRow, a_clauseNodes, a_clauseTests, a_testHead, a_clauseBind, a_litCount, a_lits, a_freshInt, a_stateMask, a_stateOpen, a_statePos, a_stateNext, a_child, a_bucketHead, a_pin, a_marked, a_queue, a_val, a_valType, a_bound) (nI p) := by
  have e : (nI p).toNatClampNeg = p := nI_clamp (by omega)
  have w : vp_in (nI p) 8 := vp_in_nI (by omega) (by omega)
  exact ⟨w, nm_r (e' := upd a_val p 0) (by rw [e]) ⟨w, nm_r (e' := upd a_valType p (-1)) (by rw [e]) h⟩⟩
theorem xw_loadSmallest {post : SX → Prop} {goal : Int64} {okT : Nat → Int32 → Int32 → Prop} (hcc : cc ≤ 12) (hrt : rt ≤ 4) (hF : xc_F cc a_ctorFirst a_ctorSecond) (h5 : gh_C5 clc (xc_t a_clauseTests) (xc_h a_testHead) (nI rt) (xc_f cc a_ctorFirst a_ctorSecond) okT) (hok : ∀ p t x, okT p t x → t ≠ -1) (hcn : ∀ q t c, 2 ≤ q → q ≤ 7 → (xc_f cc a_ctorFirst a_ctorSecond) t c q ≠ -1 → 0 < (xc_n a_litCount a_typeSize) q ((xc_f cc a_ctorFirst a_ctorSecond) t c q)) (hL : xc_L a_litCount a_typeSize) (hinj : sh_inj (xc_n a_litCount a_typeSize) (xc_d a_litCount a_lits a_freshInt a_typeCtors)) (hsolM : ∀ c, bi_L solM c = true ↔ c < clc ∧ xc_s a_clauseRow a_guardKind c = true) (F : xg_Fin clc (xc_t a_clauseTests) (xc_h a_testHead) (xc_r a_clauseRow) (xc_s a_clauseRow a_guardKind) (nI rt) (xc_f cc a_ctorFirst a_ctorSecond) (xc_n a_litCount a_typeSize) (xc_d a_litCount a_lits a_freshInt a_typeCtors) sc a_stateMask a_stateOpen a_statePos a_child) (hM : ∃ v, gh_Sh (nI rt) (xc_f cc a_ctorFirst a_ctorSecond) (xc_n a_litCount a_typeSize) (xc_d a_litCount a_lits a_freshInt a_typeCtors) v ∧ xm_M clc (xc_t a_clauseTests) (xc_h a_testHead) (xc_r a_clauseRow) (xc_s a_clauseRow a_guardKind) goal v) (hMc : ∀ u v, sh_ag 8 u v → xm_M clc (xc_t a_clauseTests) (xc_h a_testHead) (xc_r a_clauseRow) (xc_s a_clauseRow a_guardKind) goal u → xm_M clc (xc_t a_clauseTests) (xc_h a_testHead) (xc_r a_clauseRow) (xc_s a_clauseRow a_guardKind) goal v)
    (h : ∀ qt PN MD QU V VT, gh_Sh (nI rt) (xc_f cc a_ctorFirst a_ctorSecond) (xc_n a_litCount a_typeSize) (xc_d a_litCount a_lits a_freshInt a_typeCtors) V → xm_M clc (xc_t a_clauseTests) (xc_h a_testHead) (xc_r a_clauseRow) (xc_s a_clauseRow a_guardKind) goal V → (∀ u, gh_Sh (nI rt) (xc_f cc a_ctorFirst a_ctorSecond) (xc_n a_litCount a_typeSize) (xc_d a_litCount a_lits a_freshInt a_typeCtors) u → xm_M clc (xc_t a_clauseTests) (xc_h a_testHead) (xc_r a_clauseRow) (xc_s a_clauseRow a_guardKind) goal u → ¬ sh_lt (nI rt) (xc_f cc a_ctorFirst a_ctorSecond) (xc_n a_litCount a_typeSize) (xc_d a_litCount a_lits a_freshInt a_typeCtors) u V) → (∀ q, 1 ≤ q → q ≤ 7 → VT q = gh_ty (nI rt) (xc_f cc a_ctorFirst a_ctorSecond) V q) → post (nI tt, nI rl, nI rt, ph, nI cc, nI rc, ro, nI nc, nI hlc, nI clc, nI sc, solM, livM, misF, nI qt, lr, a_ctorType, a_ctorFirst, a_ctorSecond, a_typeSize, a_typeCtors, a_rowFirst, a_rowSize, a_guardKind, a_guardA, a_guardB, a_clauseFirst, a_nodeKind, a_nodeArg, a_nodePos, a_nodeRow, a_altOf, a_altSide, a_nodeNew, a_after, a_holePos, a_holeType, a_holeOwner, a_holeSide, a_clauseRow, a_clauseNodes, a_clauseTests, a_testHead, a_clauseBind, a_litCount, a_lits, a_freshInt, a_stateMask, a_stateOpen, a_statePos, a_stateNext, a_child, a_bucketHead, PN, MD, QU, V, VT, a_bound)) : wpX_loadSmallest post (nI tt, nI rl, nI rt, ph, nI cc, nI rc, ro, nI nc, nI hlc, nI clc, nI sc, solM, livM, misF, nI qt, lr, a_ctorType, a_ctorFirst, a_ctorSecond, a_typeSize, a_typeCtors, a_rowFirst, a_rowSize, a_guardKind, a_guardA, a_guardB, a_clauseFirst, a_nodeKind, a_nodeArg, a_nodePos, a_nodeRow, a_altOf, a_altSide, a_nodeNew, a_after, a_holePos, a_holeType, a_holeOwner, a_holeSide, a_clauseRow, a_clauseNodes, a_clauseTests, a_testHead, a_clauseBind, a_litCount, a_lits, a_freshInt, a_stateMask, a_stateOpen, a_statePos, a_stateNext, a_child, a_bucketHead, a_pin, a_marked, a_queue, a_val, a_valType, a_bound) goal := by
  have loop : ∀ d i PN V VT, i + d = 8 → 1 ≤ i → (∀ q, 1 ≤ q → q < i → PN q = -1 ∧ V q = 0 ∧ VT q = -1) → wX_loadSmallest_2 post goal (d + 1) (nI i) (nI tt) (nI rl) (nI rt) ph (nI cc) (nI rc) ro (nI nc) (nI hlc) (nI clc) (nI sc) solM livM misF (nI qt) lr a_ctorType a_ctorFirst a_ctorSecond a_typeSize a_typeCtors a_rowFirst a_rowSize a_guardKind a_guardA a_guardB a_clauseFirst a_nodeKind a_nodeArg a_nodePos a_nodeRow a_altOf a_altSide a_nodeNew a_after a_holePos a_holeType a_holeOwner a_holeSide a_clauseRow a_clauseNodes a_clauseTests a_testHead a_clauseBind a_litCount a_lits a_freshInt a_stateMask a_stateOpen a_statePos a_stateNext a_child a_bucketHead PN a_marked a_queue V VT a_bound := by
    intro d
    induction d with
    | zero =>
      intro i PN V VT hi i1 h1
      have : i = 8 := by omega
      subst this
      refine br_t (nI_le (a := 8) (b := 8) (by omega) (by omega)) ⟨8, xw_load28 (okT := okT) hcc hrt hF h5 hok hcn hL hinj hsolM F h hMc 7 1 qt PN a_marked a_queue V VT (by omega) (by omega) ⟨fun q q1 q7 => ⟨fun z => by omega, fun _ => ⟨(h1 q q1 (by omega)).2.2, (h1 q q1 (by omega)).2.1⟩⟩, ?_, fun q q1 q7 => ⟨fun z => by omega, fun _ => (h1 q q1 (by omega)).1⟩, fun u _ _ p p1 p2 => by omega⟩⟩
      obtain ⟨v, v1, v2⟩ := hM
      exact ⟨v, v1, fun q q1 q2 => by omega, v2⟩
    | succ d ih =>
      intro i PN V VT hi i1 h1
      refine br_f (nI_ge (a := i) (b := 8) (by omega) (by omega)) ⟨vp_in_nI (by omega) (by omega), nm_r (e' := upd PN i (-1)) (by rw [nI_clamp (by omega)]) (xw_unset (by omega) (nm_r (nI_1 i) (ih (i + 1) _ _ _ (by omega) (by omega) (fun q q1 q2 => ?_))))⟩
      by_cases e : q = i
      · subst e; exact ⟨pk_us, pk_us, pk_us⟩
      · rw [pk_un e, pk_un e, pk_un e]; exact h1 q q1 (by omega)
  exact ⟨8, loop 7 1 a_pin a_val a_valType (by omega) (by omega) (fun q a b => by omega)⟩
end
end
section
/-! Y: matching a row node by node -/
theorem yb_nar {x : Int32} (h : x = 0 ∨ x = 1) : vp_nar .boolean x = x ∧ narrow .boolean (.int x) = .int x := by
  rcases h with rfl | rfl
  · exact ⟨rfl, rfl⟩
  · exact ⟨rfl, rfl⟩
def ym_B (K A P v : Nat → Int32) (n : Nat) : Prop := K n ≠ 3 ∧ ((K n = 1 ∨ K n = 2) → v (P n).toNatClampNeg = A n)
def ym_C (K A P U v : Nat → Int32) (f e m : Nat) (HT : Nat → Int32) : Prop := ∀ n, f ≤ n → n < e → (HT n = 0 ∨ HT n = 1) ∧ (HT n ≠ 0 ↔ (K n = 3 ∧ ∃ k, m < k ∧ k < e ∧ U k = nI n ∧ HT k ≠ 0) ∨ (ym_B K A P v n ∧ ∀ k, m < k → k < e → U k = nI n → HT k ≠ 0))
theorem ym_end {K A P U v HT : Nat → Int32} {f e : Nat} (he : e < 2 ^ 31) (hup : ∀ n, f < n → n < e → ∃ u, f ≤ u ∧ u < n ∧ U n = nI u) (h : ym_C K A P U v f e f HT) : lc_Hit K A P U v f e (fun n => HT n ≠ 0) := by
  intro n n1 n2
  have lt : ∀ k, f < k → k < e → U k = nI n → n < k := by
    intro k k1 k2 k3
    obtain ⟨u, u1, u2, u3⟩ := hup k k1 k2
    rw [u3] at k3
    have := (nI_eq (by omega) (by omega)).mp k3
    omega
  show HT n ≠ 0 ↔ _
  rw [(h n n1 n2).2]
  constructor
  · rintro (⟨a, k, k1, k2, k3, k4⟩ | ⟨⟨a, b⟩, c⟩)
    · exact Or.inl ⟨a, k, lt k k1 k2 k3, k2, k3, k4⟩
    · exact Or.inr ⟨a, b, fun k k1 k2 k3 => c k (by omega) k2 k3⟩
  · rintro (⟨a, k, k1, k2, k3, k4⟩ | ⟨a, b, c⟩)
    · exact Or.inl ⟨a, k, by omega, k2, k3, k4⟩
    · exact Or.inr ⟨⟨a, b⟩, fun k k1 k2 k3 => c k (lt k k1 k2 k3) k2 k3⟩
theorem ym_step {K A P U v HT : Nat → Int32} {f e m u : Nat} {x : Int32} (he : e < 2 ^ 31) (u1 : f ≤ u) (u2 : u < m + 1) (m1 : m + 1 < e) (hU : U (m + 1) = nI u) (h : ym_C K A P U v f e (m + 1) HT) (hx : x = 0 ∨ x = 1) (hx3 : K u = 3 → (x ≠ 0 ↔ HT u ≠ 0 ∨ HT (m + 1) ≠ 0)) (hxn : K u ≠ 3 → (x ≠ 0 ↔ HT u ≠ 0 ∧ HT (m + 1) ≠ 0)) : ym_C K A P U v f e m (upd HT u x) := by
  have keep : ∀ k, m < k → upd HT u x k = HT k := fun k hk => pk_un (by omega)
  have um : ∀ n, U (m + 1) = nI n → n < 2 ^ 31 → n = u := fun n z hn => ((nI_eq (by omega) hn).mp (hU.symm.trans z)).symm
  intro n n1 n2
  obtain ⟨h1, h2⟩ := h n n1 n2
  by_cases q : n = u
  · subst q
    rw [pk_us]
    refine ⟨hx, ?_⟩
    by_cases k3 : K n = 3
    · rw [hx3 k3, h2]
      constructor
      · rintro ((⟨a, k, b1, b2, b3, b4⟩ | ⟨⟨a, _⟩, _⟩) | z)
        · exact Or.inl ⟨a, k, by omega, b2, b3, by rw [keep k (by omega)]; exact b4⟩
        · exact absurd k3 a
        · exact Or.inl ⟨k3, m + 1, by omega, m1, hU, by rw [keep _ (by omega)]; exact z⟩
      · rintro (⟨a, k, b1, b2, b3, b4⟩ | ⟨⟨a, _⟩, _⟩)
        · rw [keep k b1] at b4
          by_cases y : k = m + 1
          · exact Or.inr (y ▸ b4)
          · exact Or.inl (Or.inl ⟨a, k, by omega, b2, b3, b4⟩)
        · exact absurd k3 a
    · rw [hxn k3, h2]
      constructor
      · rintro ⟨⟨a, _⟩ | ⟨a, b⟩, z⟩
        · exact absurd a k3
        · refine Or.inr ⟨a, fun k k1 k2 k3 => ?_⟩
          rw [keep k k1]
          by_cases y : k = m + 1
          · exact y ▸ z
          · exact b k (by omega) k2 k3
      · rintro (⟨a, _⟩ | ⟨a, b⟩)
        · exact absurd a k3
        · refine ⟨Or.inr ⟨a, fun k k1 k2 k3 => ?_⟩, ?_⟩
          · have := b k (by omega) k2 k3; rw [keep k (by omega)] at this; exact this
          · have := b (m + 1) (by omega) m1 hU; rw [keep _ (by omega)] at this; exact this
  · rw [pk_un q]
    refine ⟨h1, ?_⟩
    rw [h2]
    constructor
    · rintro (⟨a, k, b1, b2, b3, b4⟩ | ⟨a, b⟩)
      · exact Or.inl ⟨a, k, by omega, b2, b3, by rw [keep k (by omega)]; exact b4⟩
      · refine Or.inr ⟨a, fun k k1 k2 k3 => ?_⟩
        rw [keep k k1]
        by_cases y : k = m + 1
        · subst y; exact absurd (um n k3 (by omega)) q
        · exact b k (by omega) k2 k3
    · rintro (⟨a, k, b1, b2, b3, b4⟩ | ⟨a, b⟩)
      · rw [keep k b1] at b4
        by_cases y : k = m + 1
        · subst y; exact absurd (um n b3 (by omega)) q
        · exact Or.inl ⟨a, k, by omega, b2, b3, b4⟩
      · refine Or.inr ⟨a, fun k k1 k2 k3 => ?_⟩
        have := b k (by omega) k2 k3; rw [keep k (by omega)] at this; exact this
section
variable {tt rl rt cc rc nc hlc : Nat} {ph ro lr : Int32} {a_ctorType a_ctorFirst a_ctorSecond a_nodeKind a_nodeArg a_nodePos a_nodeRow a_rowFirst a_guardKind a_guardA a_guardB b_nUp b_rowSize b_holePos b_holeType b_holeUp b_head b_headType b_binds b_look b_lookType b_bound b_hit b_part : Nat → Int32}
theorem yw_m231 {post : Int32 → SY → Prop} {f d : Nat} (hd : 0 < d) (h48 : f + d ≤ 48) (hup : ∀ n, f < n → n < f + d → ∃ u, f ≤ u ∧ u < n ∧ b_nUp n = nI u) (hb : b_hit f = 0 ∨ b_hit f = 1)
    (h : ∀ PT, lc_Part a_nodeKind b_nUp f (f + d) (fun n => b_hit n ≠ 0) (fun n => PT n ≠ 0) → post (b_hit f) (nI tt, nI rl, nI rt, ph, nI cc, nI nc, nI rc, nI hlc, lr, ro, a_ctorType, a_ctorFirst, a_ctorSecond, a_nodeKind, a_nodeArg, a_nodePos, a_nodeRow, b_nUp, a_rowFirst, b_rowSize, a_guardKind, a_guardA, a_guardB, b_holePos, b_holeType, b_holeUp, b_head, b_headType, b_binds, b_look, b_lookType, b_bound, b_hit, PT)) :
    ∀ j n PT, n + j = f + d → f < n → (PT f ≠ 0 ↔ b_hit f ≠ 0) → (∀ k, f < k → k < n → (PT k ≠ 0 ↔ PT (b_nUp k).toNatClampNeg ≠ 0 ∧ b_hit k ≠ 0 ∧ (a_nodeKind (b_nUp k).toNatClampNeg ≠ 3 ∨ k = (b_nUp k).toNatClampNeg + 1 ∨ ¬ b_hit ((b_nUp k).toNatClampNeg + 1) ≠ 0))) →
      wY_matches_231 post (nI f) (nI (f + d)) (nI tt) (nI rl) (nI rt) ph (nI cc) (nI nc) (nI rc) (nI hlc) lr ro (j + 1) (nI n) a_ctorType a_ctorFirst a_ctorSecond a_nodeKind a_nodeArg a_nodePos a_nodeRow b_nUp a_rowFirst b_rowSize a_guardKind a_guardA a_guardB b_holePos b_holeType b_holeUp b_head b_headType b_binds b_look b_lookType b_bound b_hit PT := by
  intro j
  induction j with
  | zero =>
    intro n PT hn fn h1 h2
    have : n = f + d := by omega
    subst this
    have e : (nI f).toNatClampNeg = f := nI_clamp (by omega)
    refine br_t (nI_le (by omega) (by omega)) ⟨vp_in_nI (by omega) (by omega), ?_⟩
    rw [e]
    exact ⟨(yb_nar hb).2, h PT ⟨h1, h2⟩⟩
  | succ j ih =>
    intro n PT hn fn h1 h2
    have e : (nI n).toNatClampNeg = n := nI_clamp (by omega)
    have w : vp_in (nI n) 48 := vp_in_nI (by omega) (by omega)
    obtain ⟨u, u1, u2, u3⟩ := hup n fn (by omega)
    have eu : (nI u).toNatClampNeg = u := nI_clamp (by omega)
    have wu : vp_in (nI u) 48 := vp_in_nI (by omega) (by omega)
    have go : ∀ x : Int32, (x ≠ 0 ↔ PT u ≠ 0 ∧ b_hit n ≠ 0 ∧ (a_nodeKind u ≠ 3 ∨ n = u + 1 ∨ ¬ b_hit (u + 1) ≠ 0)) → wY_matches_231 post (nI f) (nI (f + d)) (nI tt) (nI rl) (nI rt) ph (nI cc) (nI nc) (nI rc) (nI hlc) lr ro (j + 1) (nI (n + 1)) a_ctorType a_ctorFirst a_ctorSecond a_nodeKind a_nodeArg a_nodePos a_nodeRow b_nUp a_rowFirst b_rowSize a_guardKind a_guardA a_guardB b_holePos b_holeType b_holeUp b_head b_headType b_binds b_look b_lookType b_bound b_hit (upd PT n x) := by
      intro x hx
      refine ih (n + 1) _ (by omega) (by omega) (by rw [pk_un (by omega)]; exact h1) (fun k k1 k2 => ?_)
      obtain ⟨u', v1, v2, v3⟩ := hup k k1 (by omega)
      by_cases q : k = n
      · subst q
        rw [u3, eu, pk_us, pk_un (by omega)]; exact hx
      · have := h2 k k1 (by omega)
        rw [v3, nI_clamp (by omega)] at this ⊢
        rw [pk_un q, pk_un (by omega)]; exact this
    have z0 : ¬ (0 : Int32) ≠ 0 := fun y => y rfl
    have z1 : (1 : Int32) ≠ 0 := by decide
    refine br_f (nI_ge (by omega) (by omega)) ⟨w, nm_r (e' := nI u) (by rw [e]; exact u3) ⟨wu, ?_⟩⟩
    rw [eu, e]
    refine br_c (fun a => ⟨w, nm_r (e' := upd PT n 0) rfl (nm_r (nI_1 n) (go 0 ⟨fun y => absurd y z0, fun y => absurd a y.1⟩))⟩) (fun a => ⟨w, br_c (fun b => ⟨w, nm_r (e' := upd PT n 0) rfl (nm_r (nI_1 n) (go 0 ⟨fun y => absurd y z0, fun y => absurd b y.2.1⟩))⟩) (fun b => ⟨wu, br_c (fun c => ?_) (fun c => ⟨w, nm_r (e' := upd PT n 1) rfl (nm_r (nI_1 n) (go 1 ⟨fun _ => ⟨a, b, Or.inl c⟩, fun _ => z1⟩))⟩)⟩)⟩)
    rw [nI_1]
    refine pk_eq n (u + 1) (fun c2 => ⟨w, nm_r (e' := upd PT n 1) rfl (nm_r (nI_1 n) (go 1 ⟨fun _ => ⟨a, b, Or.inr (Or.inl c2)⟩, fun _ => z1⟩))⟩) (fun c2 => ⟨vp_in_nI (by omega) (by omega), ?_⟩)
    rw [nI_clamp (by omega : u + 1 < 2 ^ 31)]
    refine br_c (fun g => ⟨w, nm_r (e' := upd PT n 1) rfl (nm_r (nI_1 n) (go 1 ⟨fun _ => ⟨a, b, Or.inr (Or.inr (fun y => y g))⟩, fun _ => z1⟩))⟩) (fun g => ⟨w, nm_r (e' := upd PT n 0) rfl (nm_r (nI_1 n) (go 0 ⟨fun y => absurd y z0, fun y => ?_⟩))⟩)
    rcases y.2.2 with y | y | y
    · exact absurd c y
    · exact absurd y c2
    · exact absurd g y
theorem yw_m111 {post : Int32 → SY → Prop} {f d : Nat} (hd : 0 < d) (h48 : f + d ≤ 48) (hup : ∀ n, f < n → n < f + d → ∃ u, f ≤ u ∧ u < n ∧ b_nUp n = nI u)
    (h : ∀ HT PT, lc_Hit a_nodeKind a_nodeArg a_nodePos b_nUp b_look f (f + d) (fun n => HT n ≠ 0) → lc_Part a_nodeKind b_nUp f (f + d) (fun n => HT n ≠ 0) (fun n => PT n ≠ 0) → (HT f = 0 ∨ HT f = 1) → post (HT f) (nI tt, nI rl, nI rt, ph, nI cc, nI nc, nI rc, nI hlc, lr, ro, a_ctorType, a_ctorFirst, a_ctorSecond, a_nodeKind, a_nodeArg, a_nodePos, a_nodeRow, b_nUp, a_rowFirst, b_rowSize, a_guardKind, a_guardA, a_guardB, b_holePos, b_holeType, b_holeUp, b_head, b_headType, b_binds, b_look, b_lookType, b_bound, HT, PT)) :
    ∀ m HT, f ≤ m → m < f + d → ym_C a_nodeKind a_nodeArg a_nodePos b_nUp b_look f (f + d) m HT → ∀ fu, m < fu + f → wY_matches_111 post (nI f) (nI (f + d)) (nI tt) (nI rl) (nI rt) ph (nI cc) (nI nc) (nI rc) (nI hlc) lr ro (fu + 1) (nI m) a_ctorType a_ctorFirst a_ctorSecond a_nodeKind a_nodeArg a_nodePos a_nodeRow b_nUp a_rowFirst b_rowSize a_guardKind a_guardA a_guardB b_holePos b_holeType b_holeUp b_head b_headType b_binds b_look b_lookType b_bound HT b_part := by
  intro m
  induction m with
  | zero =>
    intro HT fm md hC fu hfu
    have : f = 0 := by omega
    subst this
    have hb := (hC 0 (by omega) (by omega)).1
    have e : (nI 0).toNatClampNeg = 0 := nI_clamp (by omega)
    refine br_t (nI_le (by omega) (by omega)) ⟨vp_in_nI (by omega) (by omega), vp_in_nI (by omega) (by omega), nm_r (e' := upd b_part 0 (HT 0)) (by rw [e, (yb_nar hb).1]) (nm_r (nI_1 0) ⟨d, ?_⟩)⟩
    obtain ⟨d', rfl⟩ : ∃ d', d = d' + 1 := ⟨d - 1, by omega⟩
    refine yw_m231 (b_hit := HT) hd h48 hup hb (fun PT hP => h HT PT (ym_end (by omega) hup hC) hP hb) d' (0 + 1) _ (by omega) (by omega) (by rw [pk_us]) (fun k k1 k2 => by omega)
  | succ m ih =>
    intro HT fm md hC fu hfu
    by_cases q : f = m + 1
    · subst q
      have hb := (hC (m + 1) (by omega) (by omega)).1
      have e : (nI (m + 1)).toNatClampNeg = m + 1 := nI_clamp (by omega)
      refine br_t (nI_le (by omega) (by omega)) ⟨vp_in_nI (by omega) (by omega), vp_in_nI (by omega) (by omega), nm_r (e' := upd b_part (m + 1) (HT (m + 1))) (by rw [e, (yb_nar hb).1]) (nm_r (nI_1 (m + 1)) ⟨d, ?_⟩)⟩
      obtain ⟨d', rfl⟩ : ∃ d', d = d' + 1 := ⟨d - 1, by omega⟩
      exact yw_m231 (b_hit := HT) hd h48 hup hb (fun PT hP => h HT PT (ym_end (by omega) hup hC) hP hb) d' (m + 1 + 1) _ (by omega) (by omega) (by rw [pk_us]) (fun k k1 k2 => by omega)
    · obtain ⟨fu, rfl⟩ : ∃ g, fu = g + 1 := ⟨fu - 1, by omega⟩
      have e : (nI (m + 1)).toNatClampNeg = m + 1 := nI_clamp (by omega)
      have w : vp_in (nI (m + 1)) 48 := vp_in_nI (by omega) (by omega)
      obtain ⟨u, u1, u2, u3⟩ := hup (m + 1) (by omega) md
      have eu : (nI u).toNatClampNeg = u := nI_clamp (by omega)
      have wu : vp_in (nI u) 48 := vp_in_nI (by omega) (by omega)
      have go : ∀ x : Int32, (x = 0 ∨ x = 1) → (a_nodeKind u = 3 → (x ≠ 0 ↔ HT u ≠ 0 ∨ HT (m + 1) ≠ 0)) → (a_nodeKind u ≠ 3 → (x ≠ 0 ↔ HT u ≠ 0 ∧ HT (m + 1) ≠ 0)) → wY_matches_111 post (nI f) (nI (f + d)) (nI tt) (nI rl) (nI rt) ph (nI cc) (nI nc) (nI rc) (nI hlc) lr ro (fu + 1) (nI m) a_ctorType a_ctorFirst a_ctorSecond a_nodeKind a_nodeArg a_nodePos a_nodeRow b_nUp a_rowFirst b_rowSize a_guardKind a_guardA a_guardB b_holePos b_holeType b_holeUp b_head b_headType b_binds b_look b_lookType b_bound (upd HT u x) b_part :=
        fun x hx h3 hn => ih _ (by omega) (by omega) (ym_step (by omega) u1 u2 md u3 hC hx h3 hn) fu (by omega)
      have z0 : ¬ (0 : Int32) ≠ 0 := fun y => y rfl
      have z1 : (1 : Int32) ≠ 0 := by decide
      refine br_f (nI_ge (by omega) (by omega)) ⟨w, w, ?_⟩
      rw [e, u3, eu]
      refine ⟨wu, br_c (fun k3 => ⟨w, wu, br_c (fun a => ⟨w, br_c (fun b => ⟨wu, nm_r (e' := upd HT u 0) rfl (nm_r (pk_m1 m) (go 0 (Or.inl rfl) (fun _ => ⟨fun y => absurd y z0, fun y => ?_⟩) (fun y => absurd k3 y)))⟩) (fun b => ⟨wu, nm_r (e' := upd HT u 1) rfl (nm_r (pk_m1 m) (go 1 (Or.inr rfl) (fun _ => ⟨fun _ => Or.inr b, fun _ => z1⟩) (fun y => absurd k3 y)))⟩)⟩) (fun a => ⟨wu, nm_r (e' := upd HT u 1) rfl (nm_r (pk_m1 m) (go 1 (Or.inr rfl) (fun _ => ⟨fun _ => Or.inl a, fun _ => z1⟩) (fun y => absurd k3 y)))⟩)⟩) (fun k3 => ⟨w, wu, br_c (fun a => ⟨wu, nm_r (e' := upd HT u 0) rfl (nm_r (pk_m1 m) (go 0 (Or.inl rfl) (fun y => absurd y k3) (fun _ => ⟨fun y => absurd y z0, fun y => absurd a y.1⟩)))⟩) (fun a => ⟨w, br_c (fun b => ⟨wu, nm_r (e' := upd HT u 0) rfl (nm_r (pk_m1 m) (go 0 (Or.inl rfl) (fun y => absurd y k3) (fun _ => ⟨fun y => absurd y z0, fun y => absurd b y.2⟩)))⟩) (fun b => ⟨wu, nm_r (e' := upd HT u 1) rfl (nm_r (pk_m1 m) (go 1 (Or.inr rfl) (fun y => absurd y k3) (fun _ => ⟨fun _ => ⟨a, b⟩, fun _ => z1⟩)))⟩)⟩)⟩)⟩
      rcases y with y | y
      · exact absurd a y
      · exact absurd b y
theorem yw_matches {post : Int32 → SY → Prop} {r f d : Nat} (hr : r < 8) (hf : a_rowFirst r = nI f) (hs : b_rowSize r = nI d) (hd : 0 < d) (h48 : f + d ≤ 48) (hup : ∀ n, f < n → n < f + d → ∃ u, f ≤ u ∧ u < n ∧ b_nUp n = nI u) (hP : ∀ n, f ≤ n → n < f + d → ∃ p, p ≤ 7 ∧ a_nodePos n = nI p)
    (h : ∀ HT PT, lc_Hit a_nodeKind a_nodeArg a_nodePos b_nUp b_look f (f + d) (fun n => HT n ≠ 0) → lc_Part a_nodeKind b_nUp f (f + d) (fun n => HT n ≠ 0) (fun n => PT n ≠ 0) → (HT f = 0 ∨ HT f = 1) → post (HT f) (nI tt, nI rl, nI rt, ph, nI cc, nI nc, nI rc, nI hlc, lr, ro, a_ctorType, a_ctorFirst, a_ctorSecond, a_nodeKind, a_nodeArg, a_nodePos, a_nodeRow, b_nUp, a_rowFirst, b_rowSize, a_guardKind, a_guardA, a_guardB, b_holePos, b_holeType, b_holeUp, b_head, b_headType, b_binds, b_look, b_lookType, b_bound, HT, PT)) : wpY_matches post (nI tt, nI rl, nI rt, ph, nI cc, nI nc, nI rc, nI hlc, lr, ro, a_ctorType, a_ctorFirst, a_ctorSecond, a_nodeKind, a_nodeArg, a_nodePos, a_nodeRow, b_nUp, a_rowFirst, b_rowSize, a_guardKind, a_guardA, a_guardB, b_holePos, b_holeType, b_holeUp, b_head, b_headType, b_binds, b_look, b_lookType, b_bound, b_hit, b_part) (nI r) := by
  have er : (nI r).toNatClampNeg = r := nI_clamp (by omega)
  have wr : vp_in (nI r) 8 := vp_in_nI hr (by omega)
  have loop : ∀ j n HT, n + j = f + d → f ≤ n → (∀ k, f ≤ k → k < n → (HT k = 0 ∨ HT k = 1) ∧ (HT k ≠ 0 ↔ ym_B a_nodeKind a_nodeArg a_nodePos b_look k)) → wY_matches_19 post (nI f) (nI (f + d)) (nI tt) (nI rl) (nI rt) ph (nI cc) (nI nc) (nI rc) (nI hlc) lr ro (j + 1) (nI n) a_ctorType a_ctorFirst a_ctorSecond a_nodeKind a_nodeArg a_nodePos a_nodeRow b_nUp a_rowFirst b_rowSize a_guardKind a_guardA a_guardB b_holePos b_holeType b_holeUp b_head b_headType b_binds b_look b_lookType b_bound HT b_part := by
    intro j
    induction j with
    | zero =>
      intro n HT hn fn h1
      have : n = f + d := by omega
      subst this
      obtain ⟨d', rfl⟩ : ∃ d', d = d' + 1 := ⟨d - 1, by omega⟩
      refine br_t (nI_le (by omega) (by omega)) (nm_r (e' := nI (f + d')) (nI_pred (f + d')) ⟨d' + 1 + 1, yw_m111 hd h48 hup h (f + d') HT (by omega) (by omega) (fun n n1 n2 => ⟨(h1 n n1 n2).1, ?_⟩) (d' + 1) (by omega)⟩)
      rw [(h1 n n1 n2).2]
      exact ⟨fun y => Or.inr ⟨y, fun k k1 k2 => by omega⟩, fun y => by
        rcases y with ⟨_, k, k1, k2, _⟩ | ⟨y, _⟩
        · omega
        · exact y⟩
    | succ j ih =>
      intro n HT hn fn h1
      have e : (nI n).toNatClampNeg = n := nI_clamp (by omega)
      have w : vp_in (nI n) 48 := vp_in_nI (by omega) (by omega)
      obtain ⟨p, p7, ep⟩ := hP n fn (by omega)
      have go : ∀ x : Int32, (x = 0 ∨ x = 1) → (x ≠ 0 ↔ ym_B a_nodeKind a_nodeArg a_nodePos b_look n) → wY_matches_19 post (nI f) (nI (f + d)) (nI tt) (nI rl) (nI rt) ph (nI cc) (nI nc) (nI rc) (nI hlc) lr ro (j + 1) (nI (n + 1)) a_ctorType a_ctorFirst a_ctorSecond a_nodeKind a_nodeArg a_nodePos a_nodeRow b_nUp a_rowFirst b_rowSize a_guardKind a_guardA a_guardB b_holePos b_holeType b_holeUp b_head b_headType b_binds b_look b_lookType b_bound (upd HT n x) b_part := by
        intro x hx hb
        refine ih (n + 1) _ (by omega) (by omega) (fun k k1 k2 => ?_)
        by_cases q : k = n
        · subst q; rw [pk_us]; exact ⟨hx, hb⟩
        · rw [pk_un q]; exact h1 k k1 (by omega)
      have z0 : ¬ (0 : Int32) ≠ 0 := fun y => y rfl
      have z1 : (1 : Int32) ≠ 0 := by decide
      have test : (a_nodeKind n = 1 ∨ a_nodeKind n = 2) → wY_matches_53 post (wY_matches_19 post (nI f) (nI (f + d)) (nI tt) (nI rl) (nI rt) ph (nI cc) (nI nc) (nI rc) (nI hlc) lr ro (j + 1)) (nI f) (nI (f + d)) (nI n) (nI n) (nI tt) (nI rl) (nI rt) ph (nI cc) (nI nc) (nI rc) (nI hlc) lr ro a_ctorType a_ctorFirst a_ctorSecond a_nodeKind a_nodeArg a_nodePos a_nodeRow b_nUp a_rowFirst b_rowSize a_guardKind a_guardA a_guardB b_holePos b_holeType b_holeUp b_head b_headType b_binds b_look b_lookType b_bound HT b_part := by
        intro ht
        have k3 : a_nodeKind n ≠ 3 := by rintro y; rw [y] at ht; exact absurd ht (by decide)
        unfold wY_matches_53
        rw [e, ep, nI_clamp (by omega : p < 2 ^ 31)]
        refine ⟨w, vp_in_nI (by omega) (by omega), w, br_c (fun y => ⟨w, nm_r (e' := upd HT n 1) rfl (nm_r (nI_1 n) (go 1 (Or.inr rfl) ⟨fun _ => ⟨k3, fun _ => ?_⟩, fun _ => z1⟩))⟩) (fun y => ⟨w, nm_r (e' := upd HT n 0) rfl (nm_r (nI_1 n) (go 0 (Or.inl rfl) ⟨fun x => absurd x z0, fun x => ?_⟩))⟩)⟩
        · rw [ep, nI_clamp (by omega)]; exact y
        · have := x.2 ht
          rw [ep, nI_clamp (by omega)] at this
          exact absurd this y
      refine br_f (nI_ge (by omega) (by omega)) ⟨w, ?_⟩
      rw [e]
      refine br_c (fun k1 => test (Or.inl k1)) (fun k1 => ⟨w, br_c (fun k2 => test (Or.inr k2)) (fun k2 => ⟨w, br_c (fun k3 => ⟨w, nm_r (e' := upd HT n 0) rfl (nm_r (nI_1 n) (go 0 (Or.inl rfl) ⟨fun x => absurd x z0, fun x => absurd k3 x.1⟩))⟩) (fun k3 => ⟨w, nm_r (e' := upd HT n 1) rfl (nm_r (nI_1 n) (go 1 (Or.inr rfl) ⟨fun _ => ⟨k3, fun x => ?_⟩, fun _ => z1⟩))⟩)⟩)⟩)
      rcases x with x | x
      · exact absurd x k1
      · exact absurd x k2
  exact ⟨wr, nm_r (e' := nI f) (by rw [er]; exact hf) ⟨wr, nm_r (e' := nI (f + d)) (by rw [er, hs, nI_add]) ⟨d + 1, loop d f b_hit (by omega) (Nat.le_refl _) (fun k k1 k2 => by omega)⟩⟩⟩
end
end
section
/-! Y: how a row stands to the value; completeness; literals -/
section
variable {tt rl rt cc rc nc hlc : Nat} {ph ro lr : Int32} {a_ctorType a_ctorFirst a_ctorSecond a_nodeKind a_nodeArg a_nodePos a_nodeRow a_rowFirst a_guardKind a_guardA a_guardB b_nUp b_rowSize b_holePos b_holeType b_holeUp b_head b_headType b_binds b_look b_lookType b_bound b_hit b_part : Nat → Int32}
theorem yw_forget {post : SY → Prop} (h : ∀ BD, (∀ v, v < 4 → BD v = 0) → post (nI tt, nI rl, nI rt, ph, nI cc, nI nc, nI rc, nI hlc, -11, ro, a_ctorType, a_ctorFirst, a_ctorSecond, a_nodeKind, a_nodeArg, a_nodePos, a_nodeRow, b_nUp, a_rowFirst, b_rowSize, a_guardKind, a_guardA, a_guardB, b_holePos, b_holeType, b_holeUp, b_head, b_headType, BD, b_look, b_lookType, b_bound, b_hit, b_part)) : wpY_forget post (nI tt, nI rl, nI rt, ph, nI cc, nI nc, nI rc, nI hlc, lr, ro, a_ctorType, a_ctorFirst, a_ctorSecond, a_nodeKind, a_nodeArg, a_nodePos, a_nodeRow, b_nUp, a_rowFirst, b_rowSize, a_guardKind, a_guardA, a_guardB, b_holePos, b_holeType, b_holeUp, b_head, b_headType, b_binds, b_look, b_lookType, b_bound, b_hit, b_part) := by
  have loop : ∀ d i BD, i + d = 4 → (∀ v, v < i → BD v = 0) → wY_forget_8 post (nI tt) (nI rl) (nI rt) ph (nI cc) (nI nc) (nI rc) (nI hlc) (-11) ro (d + 1) (nI i) a_ctorType a_ctorFirst a_ctorSecond a_nodeKind a_nodeArg a_nodePos a_nodeRow b_nUp a_rowFirst b_rowSize a_guardKind a_guardA a_guardB b_holePos b_holeType b_holeUp b_head b_headType BD b_look b_lookType b_bound b_hit b_part := by
    intro d
    induction d with
    | zero =>
      intro i BD hi h1
      have : i = 4 := by omega
      subst this
      exact br_t (nI_le (a := 4) (b := 4) (by omega) (by omega)) (h BD h1)
    | succ d ih =>
      intro i BD hi h1
      refine br_f (nI_ge (a := i) (b := 4) (by omega) (by omega)) ⟨vp_in_nI (by omega) (by omega), nm_r (e' := upd BD i 0) (by rw [nI_clamp (by omega)]) (nm_r (nI_1 i) (ih (i + 1) _ (by omega) (fun v hv => ?_)))⟩
      by_cases q : v = i
      · subst q; exact pk_us
      · rw [pk_un q]; exact h1 v (by omega)
  exact ⟨5, loop 4 0 b_binds (by omega) (fun v hv => by omega)⟩
theorem yw_fieldType {post : Int32 → Prop} {t c : Int32} {q : Nat} (hcc : cc ≤ 12) (hq : q ≤ 7) (h : post (xc_f cc a_ctorFirst a_ctorSecond t c q)) : wpY_fieldType post (nI tt, nI rl, nI rt, ph, nI cc, nI nc, nI rc, nI hlc, lr, ro, a_ctorType, a_ctorFirst, a_ctorSecond, a_nodeKind, a_nodeArg, a_nodePos, a_nodeRow, b_nUp, a_rowFirst, b_rowSize, a_guardKind, a_guardA, a_guardB, b_holePos, b_holeType, b_holeUp, b_head, b_headType, b_binds, b_look, b_lookType, b_bound, b_hit, b_part) t c (nI q) := by
  unfold xc_f at h
  refine br_c (fun z => ?_) (fun z => br_c (fun y => ?_) (fun y => br_c (fun x => ⟨by decide, ?_⟩) (fun x => ?_)))
  · rw [if_pos (Or.inl z)] at h; exact h
  · rw [if_pos (Or.inr (Or.inl y))] at h; exact h
  · rw [if_neg] at h
    · obtain ⟨j, j1, rfl⟩ := nI_of y
      have jc : j < cc := (nI_ltI j1 (by omega)).mp x
      have wc : vp_in (nI j) 12 := vp_in_nI (by omega) (by omega)
      have er : nI q - nI q / 2 * 2 = nI (q % 2) := pk_rem (d := 2) (by omega) (by omega) (by omega)
      rw [er]
      refine pk_eq (q % 2) 0 (fun e => ⟨wc, ?_⟩) (fun e => ⟨wc, ?_⟩)
      · rw [if_pos e] at h; exact h
      · rw [if_neg e] at h; exact h
    · rintro (w | w | w)
      · exact z w
      · exact y w
      · exact (Int32.not_lt.mpr w) x
  · rw [if_pos (Or.inr (Or.inr (Int32.not_lt.mp x)))] at h; exact h
theorem yw_complete {post : Int32 → Prop} (hcc : cc ≤ 12) (hrt : nI rt ≠ -1) (h : post (lc_b (lc_d (xv_full rt cc a_ctorFirst a_ctorSecond b_headType b_head)))) : wpY_complete post (nI tt, nI rl, nI rt, ph, nI cc, nI nc, nI rc, nI hlc, lr, ro, a_ctorType, a_ctorFirst, a_ctorSecond, a_nodeKind, a_nodeArg, a_nodePos, a_nodeRow, b_nUp, a_rowFirst, b_rowSize, a_guardKind, a_guardA, a_guardB, b_holePos, b_holeType, b_holeUp, b_head, b_headType, b_binds, b_look, b_lookType, b_bound, b_hit, b_part) := by
  have loop : ∀ d i, i + d = 8 → 2 ≤ i → (∀ p, 2 ≤ p → p < i → xc_f cc a_ctorFirst a_ctorSecond (b_headType (p / 2)) (b_head (p / 2)) p ≠ -1 → b_headType p ≠ -1) → wY_complete_2 post (nI tt) (nI rl) (nI rt) ph (nI cc) (nI nc) (nI rc) (nI hlc) lr ro a_ctorType a_ctorFirst a_ctorSecond a_nodeKind a_nodeArg a_nodePos a_nodeRow b_nUp a_rowFirst b_rowSize a_guardKind a_guardA a_guardB b_holePos b_holeType b_holeUp b_head b_headType b_binds b_look b_lookType b_bound b_hit b_part (d + 1) (nI i) := by
    intro d
    induction d with
    | zero =>
      intro i hi i1 h2
      have : i = 8 := by omega
      subst this
      refine br_t (nI_lt (a := 7) (b := 8) (by omega) (by omega)) (br_c (fun z => ?_) (fun z => ?_))
      · have hm : ¬ xv_full rt cc a_ctorFirst a_ctorSecond b_headType b_head := fun y => y 1 (by omega) (by omega) (by unfold xv_pl; rw [if_pos rfl]; exact hrt) z
        rw [lc_df.mpr hm] at h; exact h
      · have hm : xv_full rt cc a_ctorFirst a_ctorSecond b_headType b_head := by
          intro p p1 p7 hp
          unfold xv_pl at hp
          by_cases e : p = 1
          · subst e; exact z
          · rw [if_neg e] at hp; exact h2 p (by omega) (by omega) hp
        rw [lc_dt.mpr hm] at h; exact h
    | succ d ih =>
      intro i hi i1 h2
      have e : (nI i).toNatClampNeg = i := nI_clamp (by omega)
      have ed : nI i / 2 = nI (i / 2) := pk_div (d := 2) (by omega) (by omega) (by omega)
      have nx : (xc_f cc a_ctorFirst a_ctorSecond (b_headType (i / 2)) (b_head (i / 2)) i ≠ -1 → b_headType i ≠ -1) → ∀ p, 2 ≤ p → p < i + 1 → xc_f cc a_ctorFirst a_ctorSecond (b_headType (p / 2)) (b_head (p / 2)) p ≠ -1 → b_headType p ≠ -1 := by
        intro z p p1 p2
        by_cases q : p = i
        · subst q; exact z
        · exact h2 p p1 (by omega)
      refine br_f (nI_nlt (a := 7) (b := i) (by omega) (by omega)) ⟨vp_in_nI (by omega) (by omega), ?_⟩
      rw [e, ed, nI_clamp (by omega : i / 2 < 2 ^ 31)]
      have w2 : vp_in (nI (i / 2)) 8 := vp_in_nI (by omega) (by omega)
      refine br_c (fun z => ⟨by decide, w2, by decide, w2, yw_fieldType hcc (by omega) (br_c (fun y => nm_r (nI_1 i) (ih (i + 1) (by omega) (by omega) (nx (fun x => absurd y x)))) (fun y => ?_))⟩) (fun z => nm_r (nI_1 i) (ih (i + 1) (by omega) (by omega) (nx (fun _ => z))))
      have hm : ¬ xv_full rt cc a_ctorFirst a_ctorSecond b_headType b_head := fun x => x i (by omega) (by omega) (by unfold xv_pl; rw [if_neg (by omega)]; exact y) z
      rw [lc_df.mpr hm] at h; exact h
  exact ⟨7, loop 6 2 (by omega) (by omega) (fun p a b => by omega)⟩
theorem yw_isLiteral {post : Int32 → Prop} {p n : Nat} {k : Int32} (hn : n ≤ 48) (h : post (lc_b (lc_d (xl_lit a_nodeKind a_nodeArg a_nodePos n p k)))) : wpY_isLiteral post (nI tt, nI rl, nI rt, ph, nI cc, nI nc, nI rc, nI hlc, lr, ro, a_ctorType, a_ctorFirst, a_ctorSecond, a_nodeKind, a_nodeArg, a_nodePos, a_nodeRow, b_nUp, a_rowFirst, b_rowSize, a_guardKind, a_guardA, a_guardB, b_holePos, b_holeType, b_holeUp, b_head, b_headType, b_binds, b_look, b_lookType, b_bound, b_hit, b_part) (nI p) k (nI n) := by
  have loop : ∀ d i, i + d = n → (∀ n', n' < i → ¬ (a_nodeKind n' = 2 ∧ a_nodePos n' = nI p ∧ a_nodeArg n' = k)) → wY_isLiteral_3 post (nI p) k (nI n) (nI tt) (nI rl) (nI rt) ph (nI cc) (nI nc) (nI rc) (nI hlc) lr ro a_ctorType a_ctorFirst a_ctorSecond a_nodeKind a_nodeArg a_nodePos a_nodeRow b_nUp a_rowFirst b_rowSize a_guardKind a_guardA a_guardB b_holePos b_holeType b_holeUp b_head b_headType b_binds b_look b_lookType b_bound b_hit b_part (d + 1) (nI i) := by
    intro d
    induction d with
    | zero =>
      intro i hi h1
      have : i = n := by omega
      subst this
      have hm : ¬ xl_lit a_nodeKind a_nodeArg a_nodePos i p k := fun ⟨n', a, b⟩ => h1 n' a b
      rw [lc_df.mpr hm] at h
      exact br_t (nI_le (by omega) (by omega)) h
    | succ d ih =>
      intro i hi h1
      have e : (nI i).toNatClampNeg = i := nI_clamp (by omega)
      have w : vp_in (nI i) 48 := vp_in_nI (by omega) (by omega)
      have go : ¬ (a_nodeKind i = 2 ∧ a_nodePos i = nI p ∧ a_nodeArg i = k) → wY_isLiteral_3 post (nI p) k (nI n) (nI tt) (nI rl) (nI rt) ph (nI cc) (nI nc) (nI rc) (nI hlc) lr ro a_ctorType a_ctorFirst a_ctorSecond a_nodeKind a_nodeArg a_nodePos a_nodeRow b_nUp a_rowFirst b_rowSize a_guardKind a_guardA a_guardB b_holePos b_holeType b_holeUp b_head b_headType b_binds b_look b_lookType b_bound b_hit b_part (d + 1) (nI (i + 1)) := fun z => ih (i + 1) (by omega) (lt_s h1 z)
      refine br_f (nI_ge (by omega) (by omega)) ⟨w, ?_⟩
      rw [e]
      refine br_c (fun a => ⟨w, br_c (fun b => ⟨w, br_c (fun c => ?_) (fun c => nm_r (nI_1 i) (go (fun z => c z.2.2)))⟩) (fun b => nm_r (nI_1 i) (go (fun z => b z.2.1)))⟩) (fun a => nm_r (nI_1 i) (go (fun z => a z.1)))
      have hm : xl_lit a_nodeKind a_nodeArg a_nodePos n p k := ⟨i, by omega, a, b, c⟩
      rw [lc_dt.mpr hm] at h; exact h
  exact ⟨n + 1, loop n 0 (by omega) (fun n' hn' => by omega)⟩
/-- stand: the guard -/
theorem yw_st159 {post : Int32 → SY → Prop} {r : Nat} {x y : Int32} (hr : r < 8) (hg : gd_ok a_guardKind a_guardA a_guardB r) (hx : x = b_bound (a_guardA r).toNatClampNeg) (hy : a_guardKind r = 2 → y = b_bound (a_guardB r).toNatClampNeg) (hb : ∀ v, v < 4 → b_bound v = 0 ∨ ∃ p, 1 ≤ p ∧ p ≤ 7 ∧ b_bound v = nI p)
    (h1 : ¬ gd_h a_guardKind a_guardA a_guardB b_bound b_look r → post 1 (nI tt, nI rl, nI rt, ph, nI cc, nI nc, nI rc, nI hlc, lr, ro, a_ctorType, a_ctorFirst, a_ctorSecond, a_nodeKind, a_nodeArg, a_nodePos, a_nodeRow, b_nUp, a_rowFirst, b_rowSize, a_guardKind, a_guardA, a_guardB, b_holePos, b_holeType, b_holeUp, b_head, b_headType, b_binds, b_look, b_lookType, b_bound, b_hit, b_part)) (h2 : gd_h a_guardKind a_guardA a_guardB b_bound b_look r → post 2 (nI tt, nI rl, nI rt, ph, nI cc, nI nc, nI rc, nI hlc, lr, ro, a_ctorType, a_ctorFirst, a_ctorSecond, a_nodeKind, a_nodeArg, a_nodePos, a_nodeRow, b_nUp, a_rowFirst, b_rowSize, a_guardKind, a_guardA, a_guardB, b_holePos, b_holeType, b_holeUp, b_head, b_headType, b_binds, b_look, b_lookType, b_bound, b_hit, b_part)) : wY_stand_159 post (nI r) x y (nI tt) (nI rl) (nI rt) ph (nI cc) (nI nc) (nI rc) (nI hlc) lr ro a_ctorType a_ctorFirst a_ctorSecond a_nodeKind a_nodeArg a_nodePos a_nodeRow b_nUp a_rowFirst b_rowSize a_guardKind a_guardA a_guardB b_holePos b_holeType b_holeUp b_head b_headType b_binds b_look b_lookType b_bound b_hit b_part := by
  have e : (nI r).toNatClampNeg = r := nI_clamp (by omega)
  have w : vp_in (nI r) 8 := vp_in_nI hr (by omega)
  obtain ⟨g1, ⟨a, a4, ea⟩, g3⟩ := hg
  have eA : (a_guardA r).toNatClampNeg = a := by rw [ea]; exact nI_clamp (by omega)
  rw [eA] at hx
  unfold wY_stand_159
  rw [e]
  refine ⟨w, br_c (fun k0 => ?_) (fun k0 => ?_)⟩
  · unfold wY_stand_174 wY_stand_212 wY_stand_252
    rw [e]
    refine ⟨w, br_f (by rw [k0]; decide) ⟨w, br_f (by rw [k0]; decide) (br_f (by decide) (h2 (Or.inl k0)))⟩⟩
  · unfold wY_stand_174
    rw [e]
    refine ⟨w, br_c (fun k1 => ?_) (fun k1 => ?_)⟩
    · have fail : ¬ gd_h a_guardKind a_guardA a_guardB b_bound b_look r → wY_stand_209 post (nI r) x y (nI tt) (nI rl) (nI rt) ph (nI cc) (nI nc) (nI rc) (nI hlc) lr ro a_ctorType a_ctorFirst a_ctorSecond a_nodeKind a_nodeArg a_nodePos a_nodeRow b_nUp a_rowFirst b_rowSize a_guardKind a_guardA a_guardB b_holePos b_holeType b_holeUp b_head b_headType b_binds b_look b_lookType b_bound b_hit b_part := by
        intro z
        unfold wY_stand_209 wY_stand_210 wY_stand_212 wY_stand_252
        rw [e]
        exact ⟨w, br_f (by rw [k1]; decide) (br_t rfl (h1 z))⟩
      refine br_c (fun z => fail ?_) (fun z => ?_)
      · rintro (q | ⟨_, q, _⟩ | ⟨q, _⟩)
        · exact k0 q
        · rw [eA, ← hx] at q; exact q z
        · rw [k1] at q; exact absurd q (by decide)
      · obtain ⟨p, p1, p7, ep⟩ := (hb a a4).resolve_left (by rw [← hx]; exact z)
        have exp : x = nI p := hx.trans ep
        rw [exp, nI_clamp (by omega : p < 2 ^ 31)]
        rw [exp] at fail
        refine ⟨vp_in_nI (by omega) (by omega), w, br_c (fun q => fail ?_) (fun q => ?_)⟩
        · rintro (s | ⟨_, _, s⟩ | ⟨s, _⟩)
          · exact k0 s
          · rw [eA, ← hx, exp, nI_clamp (by omega)] at s
            exact (Int32.not_le.mpr s) q
          · rw [k1] at s; exact absurd s (by decide)
        · unfold wY_stand_210 wY_stand_212 wY_stand_252
          rw [e]
          refine ⟨w, br_f (by rw [k1]; decide) (br_f (by decide) (h2 (Or.inr (Or.inl ⟨k1, ?_, ?_⟩))))⟩
          · rw [eA, ← hx]; exact z
          · rw [eA, ← hx, exp, nI_clamp (by omega)]; exact Int32.not_le.mp q
    · have k2 : a_guardKind r = 2 := by
        rcases g1 with q | q | q
        · exact absurd q k0
        · exact absurd q k1
        · exact q
      obtain ⟨b, b4, eb⟩ := g3 k2
      have eB : (a_guardB r).toNatClampNeg = b := by rw [eb]; exact nI_clamp (by omega)
      have hy' := hy k2
      rw [eB] at hy'
      have fail : ¬ gd_h a_guardKind a_guardA a_guardB b_bound b_look r → wY_stand_249 post (nI tt) (nI rl) (nI rt) ph (nI cc) (nI nc) (nI rc) (nI hlc) lr ro a_ctorType a_ctorFirst a_ctorSecond a_nodeKind a_nodeArg a_nodePos a_nodeRow b_nUp a_rowFirst b_rowSize a_guardKind a_guardA a_guardB b_holePos b_holeType b_holeUp b_head b_headType b_binds b_look b_lookType b_bound b_hit b_part := by
        intro z
        unfold wY_stand_249 wY_stand_250 wY_stand_252
        exact br_t rfl (h1 z)
      unfold wY_stand_212
      rw [e]
      refine ⟨w, br_t k2 (br_c (fun z => fail ?_) (fun z => br_c (fun z2 => fail ?_) (fun z2 => ?_)))⟩
      · rintro (q | ⟨q, _⟩ | ⟨_, q, _⟩)
        · exact k0 q
        · exact k1 q
        · rw [eA, ← hx] at q; exact q z
      · rintro (q | ⟨q, _⟩ | ⟨_, _, q, _⟩)
        · exact k0 q
        · exact k1 q
        · rw [eB, ← hy'] at q; exact q z2
      · obtain ⟨p, p1, p7, ep⟩ := (hb a a4).resolve_left (by rw [← hx]; exact z)
        obtain ⟨q, q1, q7, eq⟩ := (hb b b4).resolve_left (by rw [← hy']; exact z2)
        have exp : x = nI p := hx.trans ep
        have eyq : y = nI q := hy'.trans eq
        rw [exp, eyq, nI_clamp (by omega : p < 2 ^ 31), nI_clamp (by omega : q < 2 ^ 31)]
        refine ⟨vp_in_nI (by omega) (by omega), vp_in_nI (by omega) (by omega), br_c (fun s => ?_) (fun s => fail ?_)⟩
        · unfold wY_stand_250 wY_stand_252
          refine br_f (by decide) (h2 (Or.inr (Or.inr ⟨k2, ?_, ?_, ?_⟩)))
          · rw [eA, ← hx]; exact z
          · rw [eB, ← hy']; exact z2
          · rw [eA, eB, ← hx, ← hy', exp, eyq, nI_clamp (by omega), nI_clamp (by omega)]; exact s
        · rintro (t | ⟨t, _⟩ | ⟨_, _, _, t⟩)
          · exact k0 t
          · exact k1 t
          · rw [eA, eB, ← hx, ← hy', exp, eyq, nI_clamp (by omega), nI_clamp (by omega)] at t
            exact s t
theorem yw_stand {post : Int32 → SY → Prop} {r f d : Nat} (hr : r < 8) (hf : a_rowFirst r = nI f) (hs : b_rowSize r = nI d) (hd : 0 < d) (h48 : f + d ≤ 48) (hup : ∀ n, f < n → n < f + d → ∃ u, f ≤ u ∧ u < n ∧ b_nUp n = nI u) (hP : ∀ n, f ≤ n → n < f + d → ∃ p, 1 ≤ p ∧ p ≤ 7 ∧ a_nodePos n = nI p) (hB : ∀ n, f ≤ n → n < f + d → a_nodeKind n = 4 → ∃ v, v < 4 ∧ a_nodeArg n = nI v) (hg : gd_ok a_guardKind a_guardA a_guardB r)
    (h : ∀ LK HT PT BD ans, (∀ p, 1 ≤ p → p ≤ 7 → LK p = b_head p) → lc_Hit a_nodeKind a_nodeArg a_nodePos b_nUp LK f (f + d) (fun n => HT n ≠ 0) → lc_Part a_nodeKind b_nUp f (f + d) (fun n => HT n ≠ 0) (fun n => PT n ≠ 0) →
      ((HT f = 0 ∧ ans = 0) ∨ (HT f ≠ 0 ∧ (∀ v, v < 4 → BD v = xr_bnd a_nodeKind a_nodeArg a_nodePos (fun n => lc_d (PT n ≠ 0)) f d v) ∧ ((gd_h a_guardKind a_guardA a_guardB BD LK r ∧ ans = 2) ∨ (¬ gd_h a_guardKind a_guardA a_guardB BD LK r ∧ ans = 1)))) → post ans (nI tt, nI rl, nI rt, ph, nI cc, nI nc, nI rc, nI hlc, lr, ro, a_ctorType, a_ctorFirst, a_ctorSecond, a_nodeKind, a_nodeArg, a_nodePos, a_nodeRow, b_nUp, a_rowFirst, b_rowSize, a_guardKind, a_guardA, a_guardB, b_holePos, b_holeType, b_holeUp, b_head, b_headType, b_binds, LK, b_lookType, BD, HT, PT)) : wpY_stand post (nI tt, nI rl, nI rt, ph, nI cc, nI nc, nI rc, nI hlc, lr, ro, a_ctorType, a_ctorFirst, a_ctorSecond, a_nodeKind, a_nodeArg, a_nodePos, a_nodeRow, b_nUp, a_rowFirst, b_rowSize, a_guardKind, a_guardA, a_guardB, b_holePos, b_holeType, b_holeUp, b_head, b_headType, b_binds, b_look, b_lookType, b_bound, b_hit, b_part) (nI r) := by
  have er : (nI r).toNatClampNeg = r := nI_clamp (by omega)
  have wr : vp_in (nI r) 8 := vp_in_nI hr (by omega)
  have bndr : ∀ L v j, j ≤ d → xr_bnd a_nodeKind a_nodeArg a_nodePos L f j v = 0 ∨ ∃ p, 1 ≤ p ∧ p ≤ 7 ∧ xr_bnd a_nodeKind a_nodeArg a_nodePos L f j v = nI p := by
    intro L v j
    induction j with
    | zero => intro _; exact Or.inl rfl
    | succ j ih =>
      intro hj
      rw [xr_bnd]
      split
      · exact Or.inr (hP (f + j) (by omega) (by omega))
      · exact ih (by omega)
  have l63 : ∀ LK HT PT, (∀ p, 1 ≤ p → p ≤ 7 → LK p = b_head p) → lc_Hit a_nodeKind a_nodeArg a_nodePos b_nUp LK f (f + d) (fun n => HT n ≠ 0) → lc_Part a_nodeKind b_nUp f (f + d) (fun n => HT n ≠ 0) (fun n => PT n ≠ 0) → HT f ≠ 0 → ∀ j i BD, i + j = d → (∀ v, v < 4 → BD v = xr_bnd a_nodeKind a_nodeArg a_nodePos (fun n => lc_d (PT n ≠ 0)) f i v) →
      wY_stand_63 post (nI r) (nI tt) (nI rl) (nI rt) ph (nI cc) (nI nc) (nI rc) (nI hlc) lr ro (j + 1) (nI (f + i)) a_ctorType a_ctorFirst a_ctorSecond a_nodeKind a_nodeArg a_nodePos a_nodeRow b_nUp a_rowFirst b_rowSize a_guardKind a_guardA a_guardB b_holePos b_holeType b_holeUp b_head b_headType b_binds LK b_lookType BD HT PT := by
    intro LK HT PT hLK hH hPt h0 j
    induction j with
    | zero =>
      intro i BD hi h1
      have : i = d := by omega
      subst this
      obtain ⟨g1, ⟨a, a4, ea⟩, g3⟩ := hg
      have eA : (a_guardA r).toNatClampNeg = a := by rw [ea]; exact nI_clamp (by omega)
      refine ⟨wr, wr, ?_⟩
      rw [er, hf, hs, nI_add]
      refine br_t (nI_le (by omega) (by omega)) ⟨wr, by rw [ea]; exact vp_in_nI a4 (by omega), nm_e ⟨wr, ?_⟩⟩
      have fin : ∀ y, (a_guardKind r = 2 → y = BD (a_guardB r).toNatClampNeg) → wY_stand_159 post (nI r) (BD (a_guardA r).toNatClampNeg) y (nI tt) (nI rl) (nI rt) ph (nI cc) (nI nc) (nI rc) (nI hlc) lr ro a_ctorType a_ctorFirst a_ctorSecond a_nodeKind a_nodeArg a_nodePos a_nodeRow b_nUp a_rowFirst b_rowSize a_guardKind a_guardA a_guardB b_holePos b_holeType b_holeUp b_head b_headType b_binds LK b_lookType BD HT PT := fun y hy =>
        yw_st159 hr ⟨g1, ⟨a, a4, ea⟩, g3⟩ rfl hy (fun v hv => by rw [h1 v hv]; exact bndr _ v i (Nat.le_refl _)) (fun z => h LK HT PT BD 1 hLK hH hPt (Or.inr ⟨h0, h1, Or.inr ⟨z, rfl⟩⟩)) (fun z => h LK HT PT BD 2 hLK hH hPt (Or.inr ⟨h0, h1, Or.inl ⟨z, rfl⟩⟩))
      refine br_c (fun k2 => ⟨wr, ?_, fin _ (fun _ => rfl)⟩) (fun k2 => fin 0 (fun z => absurd z k2))
      obtain ⟨b, b4, eb⟩ := g3 k2
      rw [eb]; exact vp_in_nI b4 (by omega)
    | succ j ih =>
      intro i BD hi h1
      have e : (nI (f + i)).toNatClampNeg = f + i := nI_clamp (by omega)
      have w : vp_in (nI (f + i)) 48 := vp_in_nI (by omega) (by omega)
      refine ⟨wr, wr, ?_⟩
      rw [er, hf, hs, nI_add, e]
      refine br_f (nI_ge (by omega) (by omega)) ⟨w, br_c (fun z => nm_r (nI_1 (f + i)) (ih (i + 1) BD (by omega) (fun v hv => ?_))) (fun z => ⟨w, br_c (fun k4 => ?_) (fun k4 => nm_r (nI_1 (f + i)) (ih (i + 1) BD (by omega) (fun v hv => ?_)))⟩)⟩
      · rw [xr_bnd, if_neg, h1 v hv]
        rintro ⟨q, _⟩
        exact (lc_dt.mp q) z
      · obtain ⟨v0, v4, ev⟩ := hB (f + i) (by omega) (by omega) k4
        rw [ev, nI_clamp (by omega : v0 < 2 ^ 31)]
        refine ⟨w, w, vp_in_nI v4 (by omega), nm_e (nm_r (nI_1 (f + i)) (ih (i + 1) _ (by omega) (fun v hv => ?_)))⟩
        rw [xr_bnd]
        by_cases q : v = v0
        · subst q; rw [pk_us, if_pos ⟨lc_dt.mpr z, k4, ev⟩]
        · rw [pk_un q, if_neg, h1 v hv]
          rintro ⟨_, _, s⟩
          rw [ev] at s
          exact q ((nI_eq (by omega) (by omega)).mp s).symm
      · rw [xr_bnd, if_neg (fun q => k4 q.2.1), h1 v hv]
  have l38 : ∀ LK HT PT, (∀ p, 1 ≤ p → p ≤ 7 → LK p = b_head p) → lc_Hit a_nodeKind a_nodeArg a_nodePos b_nUp LK f (f + d) (fun n => HT n ≠ 0) → lc_Part a_nodeKind b_nUp f (f + d) (fun n => HT n ≠ 0) (fun n => PT n ≠ 0) → HT f ≠ 0 → ∀ j i BD, i + j = 4 → (∀ v, v < i → BD v = 0) →
      wY_stand_38 post (nI r) (nI tt) (nI rl) (nI rt) ph (nI cc) (nI nc) (nI rc) (nI hlc) lr ro (j + 1) (nI i) a_ctorType a_ctorFirst a_ctorSecond a_nodeKind a_nodeArg a_nodePos a_nodeRow b_nUp a_rowFirst b_rowSize a_guardKind a_guardA a_guardB b_holePos b_holeType b_holeUp b_head b_headType b_binds LK b_lookType BD HT PT := by
    intro LK HT PT hLK hH hPt h0 j
    induction j with
    | zero =>
      intro i BD hi h1
      have : i = 4 := by omega
      subst this
      refine br_t (nI_le (a := 4) (b := 4) (by omega) (by omega)) ⟨wr, nm_r (e' := nI (f + 0)) (by rw [er]; exact hf) ⟨d + 1, l63 LK HT PT hLK hH hPt h0 d 0 BD (by omega) (fun v hv => h1 v hv)⟩⟩
    | succ j ih =>
      intro i BD hi h1
      refine br_f (nI_ge (a := i) (b := 4) (by omega) (by omega)) ⟨vp_in_nI (by omega) (by omega), nm_r (e' := upd BD i 0) (by rw [nI_clamp (by omega)]) (nm_r (nI_1 i) (ih (i + 1) _ (by omega) (fun v hv => ?_)))⟩
      by_cases q : v = i
      · subst q; exact pk_us
      · rw [pk_un q]; exact h1 v (by omega)
  have l2 : ∀ j i LK, i + j = 8 → 1 ≤ i → (∀ p, 1 ≤ p → p < i → LK p = b_head p) → wY_stand_2 post (nI r) (nI tt) (nI rl) (nI rt) ph (nI cc) (nI nc) (nI rc) (nI hlc) lr ro (j + 1) (nI i) a_ctorType a_ctorFirst a_ctorSecond a_nodeKind a_nodeArg a_nodePos a_nodeRow b_nUp a_rowFirst b_rowSize a_guardKind a_guardA a_guardB b_holePos b_holeType b_holeUp b_head b_headType b_binds LK b_lookType b_bound b_hit b_part := by
    intro j
    induction j with
    | zero =>
      intro i LK hi i1 h1
      have : i = 8 := by omega
      subst this
      have hLK : ∀ p, 1 ≤ p → p ≤ 7 → LK p = b_head p := fun p a b => h1 p a (by omega)
      refine br_t (nI_lt (a := 7) (b := 8) (by omega) (by omega)) (yw_matches hr hf hs hd h48 hup (fun n a b => by obtain ⟨p, _, q, s⟩ := hP n a b; exact ⟨p, q, s⟩) (fun HT PT hH hPt hb => ?_))
      exact br_c (fun z => h LK HT PT b_bound 0 hLK hH hPt (Or.inl ⟨z, rfl⟩)) (fun z => ⟨5, l38 LK HT PT hLK hH hPt z 4 0 b_bound (by omega) (fun v hv => by omega)⟩)
    | succ j ih =>
      intro i LK hi i1 h1
      have e : (nI i).toNatClampNeg = i := nI_clamp (by omega)
      have w : vp_in (nI i) 8 := vp_in_nI (by omega) (by omega)
      refine br_f (nI_nlt (a := 7) (b := i) (by omega) (by omega)) ⟨w, w, nm_r (e' := upd LK i (b_head i)) (by rw [e]) (nm_r (nI_1 i) (ih (i + 1) _ (by omega) (by omega) (fun p p1 p2 => ?_)))⟩
      by_cases q : p = i
      · subst q; exact pk_us
      · rw [pk_un q]; exact h1 p p1 (by omega)
  exact ⟨8, l2 7 1 b_look (by omega) (by omega) (fun p a b => by omega)⟩
end
end
section
/-! Y: the candidate that follows -/
theorem nh_ti (x : Int32) : x.toInt64.toInt = x.toInt := Int32.toInt_toInt64 x
def nh_L (S : Int32 → Prop) (b : Int) (r : Int64) : Prop := (r = 1099511627776 ∧ ∀ x, S x → x.toInt ≤ b) ∨ (∃ x, S x ∧ b < x.toInt ∧ r = x.toInt64 ∧ ∀ y, S y → b < y.toInt → x.toInt ≤ y.toInt)
theorem nh_inj {x y : Int32} (h : x.toInt = y.toInt) : x = y := Int32.toInt_inj.mp h
theorem nh_seq {S : Int32 → Prop} {g : Nat → Int32} {n : Nat} {b : Int} {r : Int64} (hg : ∀ i j, i < j → j < n → g i < g j) (hS : ∀ x, S x ↔ ∃ i, i < n ∧ g i = x) (h : nh_L S b r) :
    ((∀ i, i < n → b < (g i).toInt) → (0 < n → r = (g 0).toInt64) ∧ (n = 0 → r = 1099511627776)) ∧ (∀ i, i < n → b = (g i).toInt → (i + 1 < n → r = (g (i + 1)).toInt64) ∧ (¬ i + 1 < n → r = 1099511627776)) := by
  have mono : ∀ i j, i ≤ j → j < n → (g i).toInt ≤ (g j).toInt := by
    intro i j a c
    rcases Nat.lt_or_ge i j with z | z
    · have := Int32.lt_iff_toInt_lt.mp (hg i j z c); omega
    · have : i = j := by omega
      rw [this]; omega
  have smono : ∀ i j, i < j → j < n → (g i).toInt < (g j).toInt := fun i j a c => Int32.lt_iff_toInt_lt.mp (hg i j a c)
  refine ⟨fun hb => ⟨fun n0 => ?_, fun n0 => ?_⟩, fun i hi e => ⟨fun h1 => ?_, fun h1 => ?_⟩⟩
  · rcases h with ⟨_, h2⟩ | ⟨x, x1, x2, x3, x4⟩
    · have := h2 (g 0) ((hS _).mpr ⟨0, n0, rfl⟩)
      have := hb 0 n0
      omega
    · obtain ⟨i, i1, rfl⟩ := (hS x).mp x1
      have y1 := x4 (g 0) ((hS _).mpr ⟨0, n0, rfl⟩) (hb 0 n0)
      have y2 := mono 0 i (by omega) i1
      rw [x3, nh_inj (show (g i).toInt = (g 0).toInt by omega)]
  · rcases h with ⟨h2, _⟩ | ⟨x, x1, _⟩
    · exact h2
    · obtain ⟨i, i1, _⟩ := (hS x).mp x1; omega
  · rcases h with ⟨_, h2⟩ | ⟨x, x1, x2, x3, x4⟩
    · have := h2 (g (i + 1)) ((hS _).mpr ⟨i + 1, h1, rfl⟩)
      have := smono i (i + 1) (by omega) h1
      omega
    · obtain ⟨j, j1, rfl⟩ := (hS x).mp x1
      have y1 := x4 (g (i + 1)) ((hS _).mpr ⟨i + 1, h1, rfl⟩) (by have := smono i (i + 1) (by omega) h1; omega)
      have hj : i < j := by
        apply Classical.byContradiction
        intro z
        have := mono j i (by omega) hi
        omega
      have y2 := mono (i + 1) j (by omega) j1
      rw [x3, nh_inj (show (g j).toInt = (g (i + 1)).toInt by omega)]
  · rcases h with ⟨h2, _⟩ | ⟨x, x1, x2, x3, x4⟩
    · exact h2
    · obtain ⟨j, j1, rfl⟩ := (hS x).mp x1
      have := mono j i (by omega) hi
      omega
theorem nh_big (x : Int32) : x.toInt64 ≠ 1099511627776 := by
  intro z
  have := congrArg Int64.toInt z
  rw [nh_ti, show (1099511627776 : Int64).toInt = 1099511627776 from by decide] at this
  have := x.toInt_lt
  omega
theorem nh_small (x : Int32) : (-1099511627776 : Int64).toInt < x.toInt := by
  rw [show (-1099511627776 : Int64).toInt = -1099511627776 from by decide]
  have := x.le_toInt
  omega
section
variable {tt rl rt cc rc nc hlc : Nat} {ph ro lr : Int32} {a_ctorType a_ctorFirst a_ctorSecond a_nodeKind a_nodeArg a_nodePos a_nodeRow a_rowFirst a_guardKind a_guardA a_guardB b_nUp b_rowSize b_holePos b_holeType b_holeUp b_head b_headType b_binds b_look b_lookType b_bound b_hit b_part : Nat → Int32}
variable {LC LI FR TS TC NW : Nat → Int32}
theorem yw_nh13 {post : Int64 → Prop} {x1 t : Int32} {af : Int64} (hcc : cc ≤ 12) (h : ∀ r, nh_L (fun x => ∃ c, c < cc ∧ x = nI c ∧ a_ctorType c = t) af.toInt r → (t = 0 → ∃ n61, wY_nextHead_61 post x1 af r (nI tt) (nI rl) (nI rt) ph (nI cc) (nI nc) (nI rc) (nI hlc) lr ro a_ctorType a_ctorFirst a_ctorSecond a_nodeKind a_nodeArg a_nodePos a_nodeRow b_nUp a_rowFirst b_rowSize a_guardKind a_guardA a_guardB b_holePos b_holeType b_holeUp b_head b_headType b_binds b_look b_lookType b_bound b_hit b_part n61 0 0) ∧ (¬ t = 0 → post r)) : wpY_nextHead post (nI tt, nI rl, nI rt, ph, nI cc, nI nc, nI rc, nI hlc, lr, ro, a_ctorType, a_ctorFirst, a_ctorSecond, a_nodeKind, a_nodeArg, a_nodePos, a_nodeRow, b_nUp, a_rowFirst, b_rowSize, a_guardKind, a_guardA, a_guardB, b_holePos, b_holeType, b_holeUp, b_head, b_headType, b_binds, b_look, b_lookType, b_bound, b_hit, b_part) x1 t af := by
  have loop : ∀ c r, c ≤ cc → nh_L (fun x => ∃ c', c ≤ c' ∧ c' < cc ∧ x = nI c' ∧ a_ctorType c' = t) af.toInt r → wY_nextHead_13 post x1 t af (nI tt) (nI rl) (nI rt) ph (nI cc) (nI nc) (nI rc) (nI hlc) lr ro a_ctorType a_ctorFirst a_ctorSecond a_nodeKind a_nodeArg a_nodePos a_nodeRow b_nUp a_rowFirst b_rowSize a_guardKind a_guardA a_guardB b_holePos b_holeType b_holeUp b_head b_headType b_binds b_look b_lookType b_bound b_hit b_part (c + 1) r (nI c - 1) := by
    intro c
    induction c with
    | zero =>
      intro r hc hL
      have hL' : nh_L (fun x => ∃ c, c < cc ∧ x = nI c ∧ a_ctorType c = t) af.toInt r := by
        rcases hL with ⟨a, b⟩ | ⟨x, ⟨c', a0, a⟩, b1, b2, b3⟩
        · exact Or.inl ⟨a, fun x ⟨c', c1, c2⟩ => b x ⟨c', by omega, c1, c2⟩⟩
        · exact Or.inr ⟨x, ⟨c', a⟩, b1, b2, fun y ⟨c', c1, c2⟩ => b3 y ⟨c', by omega, c1, c2⟩⟩
      obtain ⟨h1, h2⟩ := h r hL'
      exact br_t (by decide) (br_c h1 h2)
    | succ c ih =>
      intro r hc hL
      rw [nI_pred]
      have e : (nI c).toNatClampNeg = c := nI_clamp (by omega)
      have tc : (nI c).toInt64.toInt = (c : Int) := by rw [nh_ti, nI_toInt (by omega)]
      have m1 : nI c + (-1) = nI c - 1 := (Int32.sub_eq_add_neg _ _).symm
      refine br_f (nI_pos (by omega)) ⟨vp_in_nI (by omega) (by omega), ?_⟩
      rw [e]
      have skip : (a_ctorType c = t → (nI c).toInt ≤ af.toInt) → nh_L (fun x => ∃ c', c ≤ c' ∧ c' < cc ∧ x = nI c' ∧ a_ctorType c' = t) af.toInt r := by
        intro hs
        rcases hL with ⟨a, b⟩ | ⟨x, ⟨c', a0, a⟩, b1, b2, b3⟩
        · refine Or.inl ⟨a, fun x ⟨c', c0, c1, c2, c3⟩ => ?_⟩
          by_cases q : c' = c
          · subst q; rw [c2]; exact hs c3
          · exact b x ⟨c', by omega, c1, c2, c3⟩
        · refine Or.inr ⟨x, ⟨c', by omega, a⟩, b1, b2, fun y ⟨c'', c0, c1, c2, c3⟩ hy => ?_⟩
          by_cases q : c'' = c
          · subst q; rw [c2] at hy; have := hs c3; omega
          · exact b3 y ⟨c'', by omega, c1, c2, c3⟩ hy
      refine br_c (fun z => br_c (fun y => nm_r m1 (ih r (by omega) (skip (fun _ => ?_)))) (fun y => nm_r m1 (ih _ (by omega) (Or.inr ⟨nI c, ⟨c, Nat.le_refl _, by omega, rfl, z⟩, ?_, rfl, fun w ⟨c', c0, c1, c2, c3⟩ _ => ?_⟩)))) (fun z => nm_r m1 (ih r (by omega) (skip (fun y => absurd y z))))
      · have := Int64.le_iff_toInt_le.mp y
        rw [nh_ti] at this; exact this
      · have := Int64.lt_iff_toInt_lt.mp (Int64.not_le.mp y)
        rw [nh_ti] at this; exact this
      · rw [c2, nI_toInt (by omega), nI_toInt (by omega)]; omega
  exact nm_e ⟨cc + 1, loop cc _ (Nat.le_refl _) (Or.inl ⟨rfl, fun x ⟨c', c0, c1, _⟩ => by omega⟩)⟩
theorem yw_nh105 {post : Int64 → Prop} {p : Nat} {af : Int64} {sp : Int32} (hnc : nc ≤ 48) (h : ∀ r, nh_L (xl_lit a_nodeKind a_nodeArg a_nodePos nc p) af.toInt r → (r = 1099511627776 → post sp.toInt64) ∧ (¬ r = 1099511627776 → post r)) :
    ∀ d i r, i + d = nc → nh_L (xl_lit a_nodeKind a_nodeArg a_nodePos i p) af.toInt r → wY_nextHead_105 post (nI p) af sp (nI tt) (nI rl) (nI rt) ph (nI cc) (nI nc) (nI rc) (nI hlc) lr ro a_ctorType a_ctorFirst a_ctorSecond a_nodeKind a_nodeArg a_nodePos a_nodeRow b_nUp a_rowFirst b_rowSize a_guardKind a_guardA a_guardB b_holePos b_holeType b_holeUp b_head b_headType b_binds b_look b_lookType b_bound b_hit b_part (d + 1) r (nI i) := by
  intro d
  induction d with
  | zero =>
    intro i r hi hL
    have : i = nc := by omega
    subst this
    obtain ⟨h1, h2⟩ := h r hL
    exact br_t (nI_le (by omega) (by omega)) (br_c h1 h2)
  | succ d ih =>
    intro i r hi hL
    have e : (nI i).toNatClampNeg = i := nI_clamp (by omega)
    have w : vp_in (nI i) 48 := vp_in_nI (by omega) (by omega)
    have hstep : ∀ x, xl_lit a_nodeKind a_nodeArg a_nodePos (i + 1) p x ↔ xl_lit a_nodeKind a_nodeArg a_nodePos i p x ∨ (a_nodeKind i = 2 ∧ a_nodePos i = nI p ∧ a_nodeArg i = x) := by
      intro x
      constructor
      · rintro ⟨n', a, b⟩
        by_cases q : n' = i
        · subst q; exact Or.inr b
        · exact Or.inl ⟨n', by omega, b⟩
      · rintro (⟨n', a, b⟩ | b)
        · exact ⟨n', by omega, b⟩
        · exact ⟨i, by omega, b⟩
    have skip : (∀ x, (a_nodeKind i = 2 ∧ a_nodePos i = nI p ∧ a_nodeArg i = x) → af.toInt < x.toInt → (¬ r = 1099511627776 ∧ r.toInt ≤ x.toInt)) → nh_L (xl_lit a_nodeKind a_nodeArg a_nodePos (i + 1) p) af.toInt r := by
      intro hs
      rcases hL with ⟨a, b⟩ | ⟨x, x1, x2, x3, x4⟩
      · refine Or.inl ⟨a, fun x hx => ?_⟩
        rcases (hstep x).mp hx with z | z
        · exact b x z
        · apply Classical.byContradiction
          intro y
          exact (hs x z (by omega)).1 a
      · refine Or.inr ⟨x, (hstep x).mpr (Or.inl x1), x2, x3, fun y hy hlt => ?_⟩
        rcases (hstep y).mp hy with z | z
        · exact x4 y z hlt
        · have := (hs y z hlt).2
          rw [x3, nh_ti] at this; exact this
    refine br_f (nI_ge (by omega) (by omega)) ⟨w, ?_⟩
    rw [e]
    refine br_c (fun a => ⟨w, br_c (fun b => ⟨w, br_c (fun c => nm_r (nI_1 i) (ih (i + 1) r (by omega) (skip (fun x hx hlt => ?_)))) (fun c => ⟨w, br_c (fun g => nm_r (nI_1 i) (ih (i + 1) r (by omega) (skip (fun x hx hlt => ?_)))) (fun g => ⟨w, nm_e (nm_r (nI_1 i) (ih (i + 1) _ (by omega) (Or.inr ⟨a_nodeArg i, (hstep _).mpr (Or.inr ⟨a, b, rfl⟩), ?_, rfl, fun y hy hlt => ?_⟩)))⟩)⟩)⟩) (fun b => nm_r (nI_1 i) (ih (i + 1) r (by omega) (skip (fun x hx => absurd hx.2.1 b))))⟩) (fun a => nm_r (nI_1 i) (ih (i + 1) r (by omega) (skip (fun x hx => absurd hx.1 a))))
    · have := Int64.le_iff_toInt_le.mp c
      rw [nh_ti, hx.2.2] at this; omega
    · have := Int64.le_iff_toInt_le.mp g
      rw [nh_ti, hx.2.2] at this
      refine ⟨fun z => ?_, this⟩
      rw [z, show (1099511627776 : Int64).toInt = 1099511627776 from by decide] at this
      have := x.toInt_lt
      omega
    · have := Int64.lt_iff_toInt_lt.mp (Int64.not_le.mp c)
      rw [nh_ti] at this; exact this
    · have g' := Int64.lt_iff_toInt_lt.mp (Int64.not_le.mp g)
      rw [nh_ti] at g'
      rcases (hstep y).mp hy with z | z
      · rcases hL with ⟨_, b2⟩ | ⟨x, x1, x2, x3, x4⟩
        · have := b2 y z; omega
        · have := x4 y z hlt
          rw [x3, nh_ti] at g'; omega
      · rw [z.2.2]; omega
/-- nextHead, by the lists of candidates -/
def yn_R (cn : Nat → Int32 → Nat) (cd : Nat → Int32 → Nat → Int32) (p : Nat) (t : Int32) (af : Int64) (r : Int64) : Prop :=
  (cn p t = 0 → r = 1099511627776) ∧ (af = -1099511627776 → 0 < cn p t → r = (cd p t 0).toInt64) ∧ (∀ i, i < cn p t → af = (cd p t i).toInt64 → (i + 1 < cn p t → r = (cd p t (i + 1)).toInt64) ∧ (¬ i + 1 < cn p t → r = 1099511627776))
theorem yw_nextHead {post : Int64 → Prop} {p : Nat} {t : Int32} {af : Int64} (hcc : cc ≤ 12) (hnc : nc ≤ 48) (p1 : 1 ≤ p) (p7 : p ≤ 7) (hT : xo_T cc a_ctorType) (hl : xl_OK a_nodeKind a_nodeArg a_nodePos NW nc LC LI FR) (hlim : ∀ p, 1 ≤ p → p ≤ 7 → xl_cnt NW a_nodePos p nc ≤ xl_lim p) (ht : xt_OK cc a_ctorType TS TC)
    (htt : t = -1 ∨ ∃ k, k ≤ 4 ∧ t = nI k) (h : ∀ r, yn_R (xc_n LC TS) (xc_d LC LI FR TC) p t af r → post r) : wpY_nextHead post (nI tt, nI rl, nI rt, ph, nI cc, nI nc, nI rc, nI hlc, lr, ro, a_ctorType, a_ctorFirst, a_ctorSecond, a_nodeKind, a_nodeArg, a_nodePos, a_nodeRow, b_nUp, a_rowFirst, b_rowSize, a_guardKind, a_guardA, a_guardB, b_holePos, b_holeType, b_holeUp, b_head, b_headType, b_binds, b_look, b_lookType, b_bound, b_hit, b_part) (nI p) t af := by
  refine yw_nh13 hcc (fun r hr => ⟨fun t0 => ?_, fun t0 => h r ?_⟩)
  · subst t0
    obtain ⟨e0, e4⟩ := cf_n0 hl hlim p1 p7
    obtain ⟨hI1, hI2, hI3⟩ := hl.1 p p1 p7
    obtain ⟨j0, j04, ej0, nj0, lj0⟩ := hl.2 p p1 p7
    have rb : r = 1099511627776 := by
      rcases hr with ⟨a, _⟩ | ⟨x, ⟨c, c1, c2, c3⟩, _⟩
      · exact a
      · obtain ⟨k, k1, k4, ek⟩ := hT c c1
        rw [c3] at ek
        exact absurd ek.symm (nI_ne0 (by omega) (by omega))
    subst rb
    have fin : (∃ n105, wY_nextHead_105 post (nI p) af (FR p) (nI tt) (nI rl) (nI rt) ph (nI cc) (nI nc) (nI rc) (nI hlc) lr ro a_ctorType a_ctorFirst a_ctorSecond a_nodeKind a_nodeArg a_nodePos a_nodeRow b_nUp a_rowFirst b_rowSize a_guardKind a_guardA a_guardB b_holePos b_holeType b_holeUp b_head b_headType b_binds b_look b_lookType b_bound b_hit b_part n105 1099511627776 0) ∨ af = (FR p).toInt64 := by
      by_cases q : af = (FR p).toInt64
      · exact Or.inr q
      · left
        refine ⟨nc + 1, yw_nh105 hnc (fun r hr => ?_) nc 0 _ (by omega) (Or.inl ⟨rfl, fun x ⟨n', hn', _⟩ => by omega⟩)⟩
        have S := nh_seq (S := xl_lit a_nodeKind a_nodeArg a_nodePos nc p) (g := fun i => LI (p * 4 + i)) hI2 (fun x => (hI3 x).symm) hr
        have cdl : ∀ i, i < xl_cnt NW a_nodePos p nc → (xc_d LC LI FR TC) p 0 i = LI (p * 4 + i) := fun i hi => by unfold xc_d; rw [if_pos rfl, e0, if_pos hi]
        have cdf : (xc_d LC LI FR TC) p 0 (xl_cnt NW a_nodePos p nc) = FR p := by unfold xc_d; rw [if_pos rfl, e0, if_neg (by omega)]
        have cnn : (xc_n LC TS) p 0 = xl_cnt NW a_nodePos p nc + 1 := by rw [xc_n0, e0]
        refine ⟨fun rz => h _ ⟨fun z => by rw [cnn] at z; omega, fun ha _ => ?_, fun i hi ha => ?_⟩, fun rz => h _ ⟨fun z => by rw [cnn] at z; omega, fun ha _ => ?_, fun i hi ha => ?_⟩⟩
        · have S1 := S.1 (fun i _ => by rw [ha]; exact nh_small _)
          rcases Nat.eq_zero_or_pos (xl_cnt NW a_nodePos p nc) with z | z
          · rw [← cdf, z]
          · rw [S1.1 z] at rz; exact absurd rz (nh_big _)
        · rw [cnn] at hi ⊢
          by_cases ci : i < xl_cnt NW a_nodePos p nc
          · rw [cdl i ci] at ha
            have S2 := S.2 i ci (by rw [ha, nh_ti])
            refine ⟨fun _ => ?_, fun z => by omega⟩
            by_cases cj : i + 1 < xl_cnt NW a_nodePos p nc
            · rw [S2.1 cj] at rz; exact absurd rz (nh_big _)
            · rw [show i + 1 = xl_cnt NW a_nodePos p nc by omega, cdf]
          · rw [show i = xl_cnt NW a_nodePos p nc by omega, cdf] at ha
            exact absurd ha q
        · have S1 := S.1 (fun i _ => by rw [ha]; exact nh_small _)
          rcases Nat.eq_zero_or_pos (xl_cnt NW a_nodePos p nc) with z | z
          · exact absurd (S1.2 z) rz
          · rw [cdl 0 z]; exact S1.1 z
        · rw [cnn] at hi ⊢
          by_cases ci : i < xl_cnt NW a_nodePos p nc
          · rw [cdl i ci] at ha
            have S2 := S.2 i ci (by rw [ha, nh_ti])
            refine ⟨fun _ => ?_, fun z => by omega⟩
            by_cases cj : i + 1 < xl_cnt NW a_nodePos p nc
            · rw [cdl _ cj]; exact S2.1 cj
            · exact absurd (S2.2 cj) rz
          · rw [show i = xl_cnt NW a_nodePos p nc by omega, cdf] at ha
            exact absurd ha q
    -- the spare
    have loop : ∀ d it j, it + d = 4 → j ≤ it → (∀ i, i < j → xl_lit a_nodeKind a_nodeArg a_nodePos nc p (nI i)) → (j < it → ¬ xl_lit a_nodeKind a_nodeArg a_nodePos nc p (nI j)) → wY_nextHead_61 post (nI p) af 1099511627776 (nI tt) (nI rl) (nI rt) ph (nI cc) (nI nc) (nI rc) (nI hlc) lr ro a_ctorType a_ctorFirst a_ctorSecond a_nodeKind a_nodeArg a_nodePos a_nodeRow b_nUp a_rowFirst b_rowSize a_guardKind a_guardA a_guardB b_holePos b_holeType b_holeUp b_head b_headType b_binds b_look b_lookType b_bound b_hit b_part (d + 1) (nI j) (nI it) := by
      intro d
      induction d with
      | zero =>
        intro it j hit hj h1 h2
        have : it = 4 := by omega
        subst this
        have ejj : j = j0 := by
          rcases Nat.lt_trichotomy j j0 with z | z | z
          · exact absurd (lj0 j z) (h2 (by omega))
          · exact z
          · exact absurd (h1 j0 z) nj0
        have eF : FR p = nI j := by rw [ejj]; exact ej0
        rw [eF] at fin
        refine br_t (nI_le (a := 4) (b := 4) (by omega) (by omega)) (br_c (fun z => h _ ⟨fun y => by have := (xc_n0 (LC := LC) (TS := TS) (p := p)).symm.trans y; omega, fun ha => ?_, fun i hi ha => ?_⟩) (fun z => fin.resolve_right z))
        · have := congrArg Int64.toInt (ha.symm.trans z)
          have h3 := nh_small (nI j)
          rw [nh_ti] at this; omega
        · have cdl : ∀ i, i < xl_cnt NW a_nodePos p nc → (xc_d LC LI FR TC) p 0 i = LI (p * 4 + i) := fun i hi => by unfold xc_d; rw [if_pos rfl, e0, if_pos hi]
          have cnn : (xc_n LC TS) p 0 = xl_cnt NW a_nodePos p nc + 1 := by rw [xc_n0, e0]
          rw [cnn] at hi ⊢
          refine ⟨fun y => ?_, fun _ => rfl⟩
          exfalso
          rw [cdl i (by omega), z] at ha
          have h4 := congrArg Int64.toInt ha
          rw [nh_ti, nh_ti] at h4
          have h5 := nh_inj h4
          have : xl_lit a_nodeKind a_nodeArg a_nodePos nc p (nI j) := (hI3 _).mp ⟨i, by omega, h5.symm⟩
          rw [ejj] at this
          exact nj0 this
      | succ d ih =>
        intro it j hit hj h1 h2
        refine br_f (nI_ge (a := it) (b := 4) (by omega) (by omega)) (yw_isLiteral hnc (lc_br (fun hf => nm_r (nI_1 it) (ih (it + 1) j (by omega) (by omega) h1 (fun _ => lc_df.mp hf))) (fun hy => nm_r (nI_1 j) (nm_r (nI_1 it) (ih (it + 1) (j + 1) (by omega) ?_ ?_ ?_)))))
        · have : ¬ j < it := fun z => h2 z (lc_dt.mp hy)
          omega
        · intro i hi
          by_cases q : i = j
          · subst q; exact lc_dt.mp hy
          · exact h1 i (by omega)
        · intro z
          have : ¬ j < it := fun z => h2 z (lc_dt.mp hy)
          omega
    exact ⟨5, loop 4 0 0 (by omega) (by omega) (fun i hi => by omega) (fun z => by omega)⟩
  · rcases htt with rfl | ⟨k, k4, rfl⟩
    · have c0 : (xc_n LC TS) p (-1) = 0 := by
        unfold xc_n; rw [if_neg (by decide), if_neg (by decide)]
      refine ⟨fun _ => ?_, fun _ z => by omega, fun i hi => by omega⟩
      rcases hr with ⟨a, _⟩ | ⟨x, ⟨c, c1, c2, c3⟩, _⟩
      · exact a
      · obtain ⟨k, k1, k4, ek⟩ := hT c c1
        rw [c3] at ek
        have := congrArg Int32.toInt ek
        rw [nI_toInt (by omega), show (-1 : Int32).toInt = -1 from by decide] at this
        omega
    · have k1 : 1 ≤ k := by
        rcases Nat.eq_zero_or_pos k with z | z
        · subst z; exact absurd rfl t0
        · exact z
      obtain ⟨s, s3, es, q1, q2, q3⟩ := ht k k1 k4
      have cnn : (xc_n LC TS) p (nI k) = s := by rw [xc_nk k1 k4, es, nI_clamp (by omega)]
      have cdk : ∀ i, (xc_d LC LI FR TC) p (nI k) i = TC (k * 3 + i) := fun i => by unfold xc_d; rw [if_neg (nI_ne0 (by omega) (by omega)), nI_clamp (by omega)]
      have S := nh_seq (S := fun x => ∃ c, c < cc ∧ x = nI c ∧ a_ctorType c = nI k) (g := fun i => TC (k * 3 + i)) q2 (fun x => ⟨fun ⟨c, c1, c2, c3⟩ => by
        obtain ⟨i, i1, i2⟩ := q3 c c1 c3
        exact ⟨i, i1, i2.trans c2.symm⟩, fun ⟨i, i1, i2⟩ => by
        obtain ⟨c, c1, c2, c3⟩ := q1 i i1
        exact ⟨c, c1, i2.symm.trans c2, c3⟩⟩) hr
      refine ⟨fun z => ?_, fun ha => ?_, fun i hi ha => ?_⟩
      · rw [cnn] at z
        exact (S.1 (fun i hi => by omega)).2 z
      · rw [cnn, cdk]
        exact (S.1 (fun i _ => by rw [ha]; exact nh_small _)).1
      · rw [cnn] at hi ⊢
        rw [cdk] at ha ⊢
        exact S.2 i hi (by rw [ha, nh_ti])
end
end
section
/-! Y: the search through the shapes -/
theorem ys_tyr {cc rt : Nat} {C1 C2 : Nat → Int32} (hcc : cc ≤ 12) (hrt : rt ≤ 4) (hF : xc_F cc C1 C2) (V : Nat → Int32) (q : Nat) : gh_ty (nI rt) (xc_f cc C1 C2) V q = -1 ∨ ∃ k, k ≤ 4 ∧ gh_ty (nI rt) (xc_f cc C1 C2) V q = nI k := by
  unfold gh_ty
  split
  · exact Or.inr ⟨rt, hrt, rfl⟩
  · split
    · by_cases z : xc_f cc C1 C2 (nI rt) (V 1) q = -1
      · exact Or.inl z
      · exact Or.inr (xc_f_ty hF hcc z)
    · by_cases z : xc_f cc C1 C2 (xc_f cc C1 C2 (nI rt) (V 1) (q / 2)) (V (q / 2)) q = -1
      · exact Or.inl z
      · exact Or.inr (xc_f_ty hF hcc z)
theorem ys_W {rt : Int32} {fty : Int32 → Int32 → Nat → Int32} {v : Nat → Int32} : gh_W (sh_fr rt fty v 1) ≤ 2187 := by
  have e : ∀ q, 2 ≤ q → sh_fr rt fty v 1 q = -1 := fun q hq => by unfold sh_fr; rw [if_neg (by omega)]
  unfold gh_W
  rw [e 2 (by omega), e 3 (by omega), e 4 (by omega), e 5 (by omega), e 6 (by omega), e 7 (by omega), gh_gc, gh_gc]
  have := gh_gl (w := 2187) (by omega) (sh_fr rt fty v 1 1)
  omega
section
variable {tt rl rt cc rc nc hlc : Nat} {ph ro lr : Int32} {a_ctorType a_ctorFirst a_ctorSecond a_nodeKind a_nodeArg a_nodePos a_nodeRow a_rowFirst a_guardKind a_guardA a_guardB b_nUp b_rowSize b_holePos b_holeType b_holeUp b_head b_headType b_binds b_look b_lookType b_bound b_hit b_part : Nat → Int32}
variable {LC LI FR TS TC NW : Nat → Int32}
theorem ys_cn (hcc : cc ≤ 12) (hnc : nc ≤ 48) (hrt : rt ≤ 4) (hF : xc_F cc a_ctorFirst a_ctorSecond) (hT : xo_T cc a_ctorType) (hl : xl_OK a_nodeKind a_nodeArg a_nodePos NW nc LC LI FR) (hlim : ∀ p, 1 ≤ p → p ≤ 7 → xl_cnt NW a_nodePos p nc ≤ xl_lim p) (ht : xt_OK cc a_ctorType TS TC) (hcn : ∀ q t c, 2 ≤ q → q ≤ 7 → (xc_f cc a_ctorFirst a_ctorSecond) t c q ≠ -1 → 0 < (xc_n LC TS) q ((xc_f cc a_ctorFirst a_ctorSecond) t c q)) (hc1 : 0 < (xc_n LC TS) 1 (nI rt)) {v : Nat → Int32} {q : Nat} (q1 : 1 ≤ q) (q7 : q ≤ 7) (h : gh_ty (nI rt) (xc_f cc a_ctorFirst a_ctorSecond) v q ≠ -1) : 0 < (xc_n LC TS) q (gh_ty (nI rt) (xc_f cc a_ctorFirst a_ctorSecond) v q) := by
  by_cases e : q = 1
  · subst e; exact hc1
  · rw [gh_ty_step (by omega) q7] at h ⊢
    exact hcn q _ _ (by omega) q7 h
theorem yw_fill {post : SY → Prop} {P : Nat} (hcc : cc ≤ 12) (hnc : nc ≤ 48) (hrt : rt ≤ 4) (hF : xc_F cc a_ctorFirst a_ctorSecond) (hT : xo_T cc a_ctorType) (hl : xl_OK a_nodeKind a_nodeArg a_nodePos NW nc LC LI FR) (hlim : ∀ p, 1 ≤ p → p ≤ 7 → xl_cnt NW a_nodePos p nc ≤ xl_lim p) (ht : xt_OK cc a_ctorType TS TC) (hcn : ∀ q t c, 2 ≤ q → q ≤ 7 → (xc_f cc a_ctorFirst a_ctorSecond) t c q ≠ -1 → 0 < (xc_n LC TS) q ((xc_f cc a_ctorFirst a_ctorSecond) t c q)) (hc1 : 0 < (xc_n LC TS) 1 (nI rt)) (P1 : 1 ≤ P) (P8 : P ≤ 8) (hi : ∀ q, 1 ≤ q → q < P → b_lookType q = gh_ty (nI rt) (xc_f cc a_ctorFirst a_ctorSecond) b_look q)
    (h : ∀ LK LT, (∀ q, 1 ≤ q → q < P → LK q = b_look q) → (∀ q, 1 ≤ q → q ≤ 7 → LT q = gh_ty (nI rt) (xc_f cc a_ctorFirst a_ctorSecond) LK q) → (∀ q, P ≤ q → q ≤ 7 → LK q = gh_f0 (xc_d LC LI FR TC) q (gh_ty (nI rt) (xc_f cc a_ctorFirst a_ctorSecond) LK q)) → post (nI tt, nI rl, nI rt, ph, nI cc, nI nc, nI rc, nI hlc, lr, ro, a_ctorType, a_ctorFirst, a_ctorSecond, a_nodeKind, a_nodeArg, a_nodePos, a_nodeRow, b_nUp, a_rowFirst, b_rowSize, a_guardKind, a_guardA, a_guardB, b_holePos, b_holeType, b_holeUp, b_head, b_headType, b_binds, LK, LT, b_bound, b_hit, b_part)) : wpY_fillFrom post (nI tt, nI rl, nI rt, ph, nI cc, nI nc, nI rc, nI hlc, lr, ro, a_ctorType, a_ctorFirst, a_ctorSecond, a_nodeKind, a_nodeArg, a_nodePos, a_nodeRow, b_nUp, a_rowFirst, b_rowSize, a_guardKind, a_guardA, a_guardB, b_holePos, b_holeType, b_holeUp, b_head, b_headType, b_binds, b_look, b_lookType, b_bound, b_hit, b_part) (nI P) := by
  have loop : ∀ d q LK LT, q + d = 8 → P ≤ q → (∀ x, 1 ≤ x → x < P → LK x = b_look x) → (∀ x, 1 ≤ x → x < q → LT x = gh_ty (nI rt) (xc_f cc a_ctorFirst a_ctorSecond) LK x) → (∀ x, P ≤ x → x < q → LK x = gh_f0 (xc_d LC LI FR TC) x (gh_ty (nI rt) (xc_f cc a_ctorFirst a_ctorSecond) LK x)) → wY_fillFrom_2 post (nI tt) (nI rl) (nI rt) ph (nI cc) (nI nc) (nI rc) (nI hlc) lr ro (d + 1) (nI q) a_ctorType a_ctorFirst a_ctorSecond a_nodeKind a_nodeArg a_nodePos a_nodeRow b_nUp a_rowFirst b_rowSize a_guardKind a_guardA a_guardB b_holePos b_holeType b_holeUp b_head b_headType b_binds LK LT b_bound b_hit b_part := by
    intro d
    induction d with
    | zero =>
      intro q LK LT hq hP h1 h2 h3
      have : q = 8 := by omega
      subst this
      exact br_t (nI_lt (a := 7) (b := 8) (by omega) (by omega)) (h LK LT h1 (fun x a b => h2 x a (by omega)) (fun x a b => h3 x a (by omega)))
    | succ d ih =>
      intro q LK LT hq hP h1 h2 h3
      have e : (nI q).toNatClampNeg = q := nI_clamp (by omega)
      have w : vp_in (nI q) 8 := vp_in_nI (by omega) (by omega)
      have c0 : (xc_n LC TS) q (-1) = 0 := by unfold xc_n; rw [if_neg (by decide), if_neg (by decide)]
      have go : ∀ x, x = gh_f0 (xc_d LC LI FR TC) q (gh_ty (nI rt) (xc_f cc a_ctorFirst a_ctorSecond) LK q) → wY_fillFrom_2 post (nI tt) (nI rl) (nI rt) ph (nI cc) (nI nc) (nI rc) (nI hlc) lr ro (d + 1) (nI (q + 1)) a_ctorType a_ctorFirst a_ctorSecond a_nodeKind a_nodeArg a_nodePos a_nodeRow b_nUp a_rowFirst b_rowSize a_guardKind a_guardA a_guardB b_holePos b_holeType b_holeUp b_head b_headType b_binds (upd LK q x) (upd LT q (gh_ty (nI rt) (xc_f cc a_ctorFirst a_ctorSecond) LK q)) b_bound b_hit b_part := by
        intro x hx
        have tyw : ∀ y, 1 ≤ y → y ≤ q → gh_ty (nI rt) (xc_f cc a_ctorFirst a_ctorSecond) (upd LK q x) y = gh_ty (nI rt) (xc_f cc a_ctorFirst a_ctorSecond) LK y := fun y y1 y2 => gh_tyeq y1 (by omega) (fun a a1 a2 _ => pk_un (by omega))
        refine ih (q + 1) _ _ (by omega) (by omega) (fun y y1 y2 => by rw [pk_un (by omega)]; exact h1 y y1 y2) (fun y y1 y2 => ?_) (fun y y1 y2 => ?_)
        · rw [tyw y y1 (by omega)]
          by_cases z : y = q
          · subst z; exact pk_us
          · rw [pk_un z]; exact h2 y y1 (by omega)
        · rw [tyw y (by omega) (by omega)]
          by_cases z : y = q
          · subst z; rw [pk_us]; exact hx
          · rw [pk_un z]; exact h3 y y1 (by omega)
      have j46 : ∀ z0, z0 = gh_ty (nI rt) (xc_f cc a_ctorFirst a_ctorSecond) LK q → wY_fillFrom_46 post (wY_fillFrom_2 post (nI tt) (nI rl) (nI rt) ph (nI cc) (nI nc) (nI rc) (nI hlc) lr ro (d + 1)) (nI q) z0 (nI q) (nI tt) (nI rl) (nI rt) ph (nI cc) (nI nc) (nI rc) (nI hlc) lr ro a_ctorType a_ctorFirst a_ctorSecond a_nodeKind a_nodeArg a_nodePos a_nodeRow b_nUp a_rowFirst b_rowSize a_guardKind a_guardA a_guardB b_holePos b_holeType b_holeUp b_head b_headType b_binds LK LT b_bound b_hit b_part := by
        intro z0 hz0
        subst hz0
        refine ⟨w, nm_r (e' := upd LT q (gh_ty (nI rt) (xc_f cc a_ctorFirst a_ctorSecond) LK q)) (by rw [e]) ⟨w, ?_⟩⟩
        rw [e, pk_us]
        refine yw_nextHead (NW := NW) (LC := LC) (LI := LI) (FR := FR) (TS := TS) (TC := TC) hcc hnc (by omega) (by omega) hT hl hlim ht (ys_tyr hcc hrt hF LK q) (fun r hr => ?_)
        by_cases z : gh_ty (nI rt) (xc_f cc a_ctorFirst a_ctorSecond) LK q = -1
        · have rb := hr.1 (by rw [z]; exact c0)
          exact br_t rb ⟨w, nm_e (nm_r (nI_1 q) (go 0 (by unfold gh_f0; rw [if_pos z])))⟩
        · have rb := hr.2.1 rfl (ys_cn hcc hnc hrt hF hT hl hlim ht hcn hc1 (by omega) (by omega) z)
          refine br_f (by rw [rb]; exact nh_big _) ⟨w, nm_e (nm_r (nI_1 q) (go _ ?_))⟩
          rw [rb, Int32.toInt32_toInt64]
          unfold gh_f0; rw [if_neg z]
      refine br_f (nI_nlt (a := 7) (b := q) (by omega) (by omega)) ?_
      by_cases q1 : q = 1
      · subst q1
        exact br_t rfl (j46 _ rfl)
      · have ed : nI q / 2 = nI (q / 2) := pk_div (d := 2) (by omega) (by omega) (by omega)
        have w2 : vp_in (nI (q / 2)) 8 := vp_in_nI (by omega) (by omega)
        have ne1 : ¬ nI q = 1 := fun z => q1 ((nI_eq (a := q) (b := 1) (by omega) (by omega)).mp z)
        refine br_f ne1 ?_
        rw [ed, nI_clamp (by omega : q / 2 < 2 ^ 31)]
        exact ⟨by decide, w2, by decide, w2, yw_fieldType hcc (by omega) (j46 _ (by rw [gh_ty_step (by omega) (by omega), h2 (q / 2) (by omega) (by omega)]))⟩
  exact ⟨8 - P + 1, loop (8 - P) P b_look b_lookType (by omega) (Nat.le_refl _) (fun _ _ _ => rfl) hi (fun x a b => by omega)⟩
theorem yw_advance {post : Int32 → SY → Prop} (hcc : cc ≤ 12) (hnc : nc ≤ 48) (hrt : rt ≤ 4) (hF : xc_F cc a_ctorFirst a_ctorSecond) (hT : xo_T cc a_ctorType) (hl : xl_OK a_nodeKind a_nodeArg a_nodePos NW nc LC LI FR) (hlim : ∀ p, 1 ≤ p → p ≤ 7 → xl_cnt NW a_nodePos p nc ≤ xl_lim p) (ht : xt_OK cc a_ctorType TS TC) (hcn : ∀ q t c, 2 ≤ q → q ≤ 7 → (xc_f cc a_ctorFirst a_ctorSecond) t c q ≠ -1 → 0 < (xc_n LC TS) q ((xc_f cc a_ctorFirst a_ctorSecond) t c q)) (hc1 : 0 < (xc_n LC TS) 1 (nI rt)) (hS : gh_Sh (nI rt) (xc_f cc a_ctorFirst a_ctorSecond) (xc_n LC TS) (xc_d LC LI FR TC) b_look) (hi : ∀ q, 1 ≤ q → q ≤ 7 → b_lookType q = gh_ty (nI rt) (xc_f cc a_ctorFirst a_ctorSecond) b_look q)
    (h0 : sh_last (nI rt) (xc_f cc a_ctorFirst a_ctorSecond) (xc_n LC TS) (xc_d LC LI FR TC) b_look 0 → post 0 (nI tt, nI rl, nI rt, ph, nI cc, nI nc, nI rc, nI hlc, lr, ro, a_ctorType, a_ctorFirst, a_ctorSecond, a_nodeKind, a_nodeArg, a_nodePos, a_nodeRow, b_nUp, a_rowFirst, b_rowSize, a_guardKind, a_guardA, a_guardB, b_holePos, b_holeType, b_holeUp, b_head, b_headType, b_binds, b_look, b_lookType, b_bound, b_hit, b_part))
    (h1 : ∀ p i LK LT, 1 ≤ p → p ≤ 7 → sh_ag p LK b_look → gh_ty (nI rt) (xc_f cc a_ctorFirst a_ctorSecond) b_look p ≠ -1 → i + 1 < (xc_n LC TS) p (gh_ty (nI rt) (xc_f cc a_ctorFirst a_ctorSecond) b_look p) → b_look p = (xc_d LC LI FR TC) p (gh_ty (nI rt) (xc_f cc a_ctorFirst a_ctorSecond) b_look p) i → LK p = (xc_d LC LI FR TC) p (gh_ty (nI rt) (xc_f cc a_ctorFirst a_ctorSecond) b_look p) (i + 1) → sh_last (nI rt) (xc_f cc a_ctorFirst a_ctorSecond) (xc_n LC TS) (xc_d LC LI FR TC) b_look p → sh_frst (nI rt) (xc_f cc a_ctorFirst a_ctorSecond) (xc_d LC LI FR TC) LK p → gh_Sh (nI rt) (xc_f cc a_ctorFirst a_ctorSecond) (xc_n LC TS) (xc_d LC LI FR TC) LK → (∀ q, 1 ≤ q → q ≤ 7 → LT q = gh_ty (nI rt) (xc_f cc a_ctorFirst a_ctorSecond) LK q) → post 1 (nI tt, nI rl, nI rt, ph, nI cc, nI nc, nI rc, nI hlc, lr, ro, a_ctorType, a_ctorFirst, a_ctorSecond, a_nodeKind, a_nodeArg, a_nodePos, a_nodeRow, b_nUp, a_rowFirst, b_rowSize, a_guardKind, a_guardA, a_guardB, b_holePos, b_holeType, b_holeUp, b_head, b_headType, b_binds, LK, LT, b_bound, b_hit, b_part)) : wpY_advance post (nI tt, nI rl, nI rt, ph, nI cc, nI nc, nI rc, nI hlc, lr, ro, a_ctorType, a_ctorFirst, a_ctorSecond, a_nodeKind, a_nodeArg, a_nodePos, a_nodeRow, b_nUp, a_rowFirst, b_rowSize, a_guardKind, a_guardA, a_guardB, b_holePos, b_holeType, b_holeUp, b_head, b_headType, b_binds, b_look, b_lookType, b_bound, b_hit, b_part) := by
  have loop : ∀ p, p ≤ 7 → sh_last (nI rt) (xc_f cc a_ctorFirst a_ctorSecond) (xc_n LC TS) (xc_d LC LI FR TC) b_look p → wY_advance_3 post (nI tt) (nI rl) (nI rt) ph (nI cc) (nI nc) (nI rc) (nI hlc) lr ro a_ctorType a_ctorFirst a_ctorSecond a_nodeKind a_nodeArg a_nodePos a_nodeRow b_nUp a_rowFirst b_rowSize a_guardKind a_guardA a_guardB b_holePos b_holeType b_holeUp b_head b_headType b_binds b_look b_lookType b_bound b_hit b_part (p + 1) (nI p) := by
    intro p
    induction p with
    | zero =>
      intro _ hl'
      exact br_t (nI_lt (a := 0) (b := 1) (by omega) (by omega)) (h0 hl')
    | succ p ih =>
      intro p7 hl'
      have e : (nI (p + 1)).toNatClampNeg = p + 1 := nI_clamp (by omega)
      have w : vp_in (nI (p + 1)) 8 := vp_in_nI (by omega) (by omega)
      refine br_f (nI_nlt (a := p + 1) (b := 1) (by omega) (by omega)) ⟨w, w, ?_⟩
      rw [e, hi (p + 1) (by omega) p7]
      have c0 : (xc_n LC TS) (p + 1) (-1) = 0 := by unfold xc_n; rw [if_neg (by decide), if_neg (by decide)]
      refine yw_nextHead (NW := NW) (LC := LC) (LI := LI) (FR := FR) (TS := TS) (TC := TC) hcc hnc (by omega) (by omega) hT hl hlim ht (ys_tyr hcc hrt hF b_look (p + 1)) (fun r hr => ?_)
      by_cases z : gh_ty (nI rt) (xc_f cc a_ctorFirst a_ctorSecond) b_look (p + 1) = -1
      · have rb := hr.1 (by rw [z]; exact c0)
        refine br_t rb (nm_r (pk_m1 p) (ih (by omega) (fun q q1 q7 hq => ?_)))
        by_cases y : q = p + 1
        · subst y; exact absurd z hq
        · exact hl' q (by omega) q7 hq
      · obtain ⟨i, i1, i2⟩ := (hS (p + 1) (by omega) p7).2 z
        have hr2 := hr.2.2 i i1 (by rw [i2])
        by_cases y : i + 1 < (xc_n LC TS) (p + 1) (gh_ty (nI rt) (xc_f cc a_ctorFirst a_ctorSecond) b_look (p + 1))
        · have rb := hr2.1 y
          refine br_f (by rw [rb]; exact nh_big _) ⟨w, nm_r (e' := upd b_look (p + 1) ((xc_d LC LI FR TC) (p + 1) (gh_ty (nI rt) (xc_f cc a_ctorFirst a_ctorSecond) b_look (p + 1)) (i + 1))) (by rw [rb, Int32.toInt32_toInt64]) ?_⟩
          rw [nI_1]
          have tyw : ∀ x q, 1 ≤ q → q ≤ p + 1 → gh_ty (nI rt) (xc_f cc a_ctorFirst a_ctorSecond) (upd b_look (p + 1) x) q = gh_ty (nI rt) (xc_f cc a_ctorFirst a_ctorSecond) b_look q := fun x q q1 q2 => gh_tyeq q1 (by omega) (fun a a1 a2 _ => pk_un (by omega))
          refine yw_fill hcc hnc hrt hF hT hl hlim ht hcn hc1 (by omega) (by omega) (fun q q1 q2 => ?_) (fun LK LT k1 k2 k3 => ?_)
          · rw [tyw _ q q1 (by omega)]; exact hi q q1 (by omega)
          · have ag : sh_ag (p + 1) LK b_look := fun q q1 q2 => by rw [k1 q q1 (by omega), pk_un (by omega)]
            have ety : ∀ q, 1 ≤ q → q ≤ p + 1 → gh_ty (nI rt) (xc_f cc a_ctorFirst a_ctorSecond) LK q = gh_ty (nI rt) (xc_f cc a_ctorFirst a_ctorSecond) b_look q := fun q q1 q2 => sh_ag_ty ag q1 (by omega) (by omega)
            have hp : LK (p + 1) = (xc_d LC LI FR TC) (p + 1) (gh_ty (nI rt) (xc_f cc a_ctorFirst a_ctorSecond) b_look (p + 1)) (i + 1) := by rw [k1 (p + 1) (by omega) (by omega), pk_us]
            refine h1 (p + 1) i LK LT (by omega) p7 ag z y i2 hp hl' (fun q q1 q7 hq => ?_) (fun q q1 q7 => ?_) k2
            · rw [k3 q (by omega) q7]; unfold gh_f0; rw [if_neg hq]
            · by_cases x : q ≤ p
              · rw [ety q q1 (by omega), ag q q1 (by omega)]; exact hS q q1 q7
              · by_cases x2 : q = p + 1
                · subst x2
                  rw [ety (p + 1) q1 (by omega), hp]
                  exact ⟨fun s => absurd s z, fun _ => ⟨i + 1, y, rfl⟩⟩
                · rw [k3 q (by omega) q7]
                  exact gh_f0_ok (fun s => ys_cn hcc hnc hrt hF hT hl hlim ht hcn hc1 q1 q7 s)
        · have rb := hr2.2 y
          refine br_t rb (nm_r (pk_m1 p) (ih (by omega) (fun q q1 q7 hq => ?_)))
          by_cases x : q = p + 1
          · subst x; rw [i2]; exact congrArg _ (by omega)
          · exact hl' q (by omega) q7 hq
  exact ⟨8, loop 7 (by omega) (fun q a b => by omega)⟩
/-- rows: what the reference's matching says of a shape -/
def ys_Row (rc : Nat) (K A P U RF RS : Nat → Int32) (RM : Nat → (Nat → Int32) → Prop) (PP : Nat → (Nat → Int32) → Nat → Prop) : Prop := ∀ q, q < rc → ∃ f d, RF q = nI f ∧ RS q = nI d ∧ 0 < d ∧ f + d ≤ 48 ∧ (∀ n, f < n → n < f + d → ∃ u, f ≤ u ∧ u < n ∧ U n = nI u) ∧ (∀ n, f ≤ n → n < f + d → ∃ p, p ≤ 7 ∧ P n = nI p) ∧
  ∀ v H Q, lc_Hit K A P U v f (f + d) H → lc_Part K U f (f + d) H Q → (H f ↔ RM q v) ∧ (RM q v → ∀ n, f ≤ n → n < f + d → (Q n ↔ PP q v n))
def ys_M (G : Nat → Int32) (RM : Nat → (Nat → Int32) → Prop) (PP : Nat → (Nat → Int32) → Nat → Prop) (x1 : Int32) (r : Nat) (v : Nat → Int32) : Prop := (∀ q, q < r → G q = 0 → ¬ RM q v) ∧ (x1 < 0 ∨ (RM r v ∧ PP r v x1.toNatClampNeg))
theorem yw_search17 {post : Int32 → SY → Prop} {x1 : Int32} {r : Nat} {RM : Nat → (Nat → Int32) → Prop} {PP : Nat → (Nat → Int32) → Nat → Prop} (hcc : cc ≤ 12) (hnc : nc ≤ 48) (hrt : rt ≤ 4) (hF : xc_F cc a_ctorFirst a_ctorSecond) (hT : xo_T cc a_ctorType) (hl : xl_OK a_nodeKind a_nodeArg a_nodePos NW nc LC LI FR) (hlim : ∀ p, 1 ≤ p → p ≤ 7 → xl_cnt NW a_nodePos p nc ≤ xl_lim p) (ht : xt_OK cc a_ctorType TS TC) (hcn : ∀ q t c, 2 ≤ q → q ≤ 7 → (xc_f cc a_ctorFirst a_ctorSecond) t c q ≠ -1 → 0 < (xc_n LC TS) q ((xc_f cc a_ctorFirst a_ctorSecond) t c q)) (hc1 : 0 < (xc_n LC TS) 1 (nI rt)) (hrc : rc ≤ 8) (hinj : sh_inj (xc_n LC TS) (xc_d LC LI FR TC)) (hR : ys_Row rc a_nodeKind a_nodeArg a_nodePos b_nUp a_rowFirst b_rowSize RM PP) (hr : r ≤ rc) (hx : x1 < 0 ∨ (r < rc ∧ ∃ n, x1 = nI n ∧ ∀ f d, f + d ≤ 48 → a_rowFirst r = nI f → b_rowSize r = nI d → f ≤ n ∧ n < f + d)) (hMc : ∀ u v, sh_ag 8 u v → ys_M a_guardKind RM PP x1 r u → ys_M a_guardKind RM PP x1 r v)
    (h0 : (∀ u, gh_Sh (nI rt) (xc_f cc a_ctorFirst a_ctorSecond) (xc_n LC TS) (xc_d LC LI FR TC) u → ¬ ys_M a_guardKind RM PP x1 r u) → ∀ LK LT HT PT, post 0 (nI tt, nI rl, nI rt, ph, nI cc, nI nc, nI rc, nI hlc, lr, ro, a_ctorType, a_ctorFirst, a_ctorSecond, a_nodeKind, a_nodeArg, a_nodePos, a_nodeRow, b_nUp, a_rowFirst, b_rowSize, a_guardKind, a_guardA, a_guardB, b_holePos, b_holeType, b_holeUp, b_head, b_headType, b_binds, LK, LT, b_bound, HT, PT))
    (h1 : ∀ LK LT HT PT, gh_Sh (nI rt) (xc_f cc a_ctorFirst a_ctorSecond) (xc_n LC TS) (xc_d LC LI FR TC) LK → (∀ q, 1 ≤ q → q ≤ 7 → LT q = gh_ty (nI rt) (xc_f cc a_ctorFirst a_ctorSecond) LK q) → ys_M a_guardKind RM PP x1 r LK → (∀ u, gh_Sh (nI rt) (xc_f cc a_ctorFirst a_ctorSecond) (xc_n LC TS) (xc_d LC LI FR TC) u → ys_M a_guardKind RM PP x1 r u → ¬ sh_lt (nI rt) (xc_f cc a_ctorFirst a_ctorSecond) (xc_n LC TS) (xc_d LC LI FR TC) u LK) → post 1 (nI tt, nI rl, nI rt, ph, nI cc, nI nc, nI rc, nI hlc, lr, ro, a_ctorType, a_ctorFirst, a_ctorSecond, a_nodeKind, a_nodeArg, a_nodePos, a_nodeRow, b_nUp, a_rowFirst, b_rowSize, a_guardKind, a_guardA, a_guardB, b_holePos, b_holeType, b_holeUp, b_head, b_headType, b_binds, LK, LT, b_bound, HT, PT)) : wY_search_17 post x1 (nI r) (nI tt) (nI rl) (nI rt) ph (nI cc) (nI nc) (nI rc) (nI hlc) lr ro a_ctorType a_ctorFirst a_ctorSecond a_nodeKind a_nodeArg a_nodePos a_nodeRow b_nUp a_rowFirst b_rowSize a_guardKind a_guardA a_guardB b_holePos b_holeType b_holeUp b_head b_headType b_binds b_look b_lookType b_bound b_hit b_part := by
  have few : sh_few (xc_n LC TS) := (xc_few (cf_L hl hlim ht)).1
  have f0 : ∀ c q, (xc_f cc a_ctorFirst a_ctorSecond) 0 c q = -1 := fun c q => by unfold xc_f; rw [if_pos (Or.inl (by decide))]
  have f1 : ∀ c q, (xc_f cc a_ctorFirst a_ctorSecond) (-1) c q = -1 := fun c q => by unfold xc_f; rw [if_pos (Or.inl (by decide))]
  have loop : ∀ d s x3 LK LT HT PT, d + s = 2187 → ((x3 = 0 ∧ ∀ u, gh_Sh (nI rt) (xc_f cc a_ctorFirst a_ctorSecond) (xc_n LC TS) (xc_d LC LI FR TC) u → ¬ ys_M a_guardKind RM PP x1 r u) ∨ (x3 = 1 ∧ gh_Sh (nI rt) (xc_f cc a_ctorFirst a_ctorSecond) (xc_n LC TS) (xc_d LC LI FR TC) LK ∧ (∀ q, 1 ≤ q → q ≤ 7 → LT q = gh_ty (nI rt) (xc_f cc a_ctorFirst a_ctorSecond) LK q) ∧ s ≤ sh_rk (nI rt) (xc_f cc a_ctorFirst a_ctorSecond) (xc_n LC TS) (xc_d LC LI FR TC) LK 7 ∧ ∀ u, gh_Sh (nI rt) (xc_f cc a_ctorFirst a_ctorSecond) (xc_n LC TS) (xc_d LC LI FR TC) u → sh_lt (nI rt) (xc_f cc a_ctorFirst a_ctorSecond) (xc_n LC TS) (xc_d LC LI FR TC) u LK → ¬ ys_M a_guardKind RM PP x1 r u)) →
      wY_search_28 post x1 (nI r) (d + 1) x3 (nI s) (nI tt) (nI rl) (nI rt) ph (nI cc) (nI nc) (nI rc) (nI hlc) lr ro a_ctorType a_ctorFirst a_ctorSecond a_nodeKind a_nodeArg a_nodePos a_nodeRow b_nUp a_rowFirst b_rowSize a_guardKind a_guardA a_guardB b_holePos b_holeType b_holeUp b_head b_headType b_binds LK LT b_bound HT PT := by
    intro d
    induction d with
    | zero =>
      intro s x3 LK LT HT PT hs hI
      rcases hI with ⟨rfl, hn⟩ | ⟨rfl, i1, i2, i3, i4⟩
      · exact br_c (fun _ => h0 hn _ _ _ _) (fun _ => br_t rfl (h0 hn _ _ _ _))
      · exfalso
        have := sh_rk_lt hinj few f0 f1 i1 7 (by omega)
        have hW := ys_W (rt := nI rt) (fty := (xc_f cc a_ctorFirst a_ctorSecond)) (v := LK)
        rw [show 8 - 7 = 1 by omega] at this
        omega
    | succ d ih =>
      intro s x3 LK LT HT PT hs hI
      rcases hI with ⟨rfl, hn⟩ | ⟨rfl, i1, i2, i3, i4⟩
      · exact br_c (fun _ => h0 hn _ _ _ _) (fun _ => br_t rfl (h0 hn _ _ _ _))
      · refine br_f (nI_ge (a := s) (b := 2187) (by omega) (by omega)) (br_f (by decide) ?_)
        -- no luck: the next shape
        have next : ∀ HT PT, ¬ ys_M a_guardKind RM PP x1 r LK → wY_search_117 post (wY_search_28 post x1 (nI r) (d + 1)) x1 (nI r) (nI s) (nI tt) (nI rl) (nI rt) ph (nI cc) (nI nc) (nI rc) (nI hlc) lr ro a_ctorType a_ctorFirst a_ctorSecond a_nodeKind a_nodeArg a_nodePos a_nodeRow b_nUp a_rowFirst b_rowSize a_guardKind a_guardA a_guardB b_holePos b_holeType b_holeUp b_head b_headType b_binds LK LT b_bound HT PT := by
          intro HT PT hno
          unfold wY_search_117
          refine yw_advance hcc hnc hrt hF hT hl hlim ht hcn hc1 i1 i2 (fun hlast => nm_r (nI_1 s) (ih (s + 1) 0 LK LT HT PT (by omega) (Or.inl ⟨rfl, fun u hu hm => ?_⟩))) (fun p i LK' LT' p1 p7 ag hty hi hv hv' hla hfr hS' hT' => nm_r (nI_1 s) (ih (s + 1) 1 LK' LT' HT PT (by omega) (Or.inr ⟨rfl, hS', hT', ?_, fun u hu hlt hm => ?_⟩)))
          · rcases sh_end hinj hu i1 hlast with z | z
            · exact i4 u hu z hm
            · exact hno (hMc u LK z hm)
          · have := sh_adv_rk hinj few f0 f1 i1 p1 p7 ag hty hi hv hv'
            omega
          · rcases sh_adv_lt hinj hu i1 p1 p7 ag hty hi hv hv' hla hfr hlt with z | z
            · exact i4 u hu z hm
            · exact hno (hMc u LK z hm)
        have j89 : ∀ x5 HT PT, ((x5 = 1 ∧ ∀ q, q < r → a_guardKind q = 0 → ¬ RM q LK) ∨ (x5 = 0 ∧ ¬ ∀ q, q < r → a_guardKind q = 0 → ¬ RM q LK)) → wY_search_89 post (wY_search_28 post x1 (nI r) (d + 1)) x1 (nI r) (nI s) x5 (nI tt) (nI rl) (nI rt) ph (nI cc) (nI nc) (nI rc) (nI hlc) lr ro a_ctorType a_ctorFirst a_ctorSecond a_nodeKind a_nodeArg a_nodePos a_nodeRow b_nUp a_rowFirst b_rowSize a_guardKind a_guardA a_guardB b_holePos b_holeType b_holeUp b_head b_headType b_binds LK LT b_bound HT PT := by
          intro x5 HT PT h5
          unfold wY_search_89
          rcases h5 with ⟨rfl, h5⟩ | ⟨rfl, h5⟩
          · refine br_f (by decide) (br_c (fun xn => h1 LK LT HT PT i1 i2 ⟨h5, Or.inl xn⟩ (fun u hu hm hlt => i4 u hu hlt hm)) (fun xn => ?_))
            obtain ⟨hrr, n, rfl, hnn⟩ := hx.resolve_left xn
            obtain ⟨f', d', ef', ed', dpos, f48, hup, hpos, hsem⟩ := hR r hrr
            obtain ⟨n1, n2⟩ := hnn f' d' f48 ef' ed'
            have en : (nI n).toNatClampNeg = n := nI_clamp (by omega)
            refine yw_matches (by omega) ef' ed' dpos f48 hup hpos (fun HT' PT' hH hP hb => ?_)
            obtain ⟨s1, s2⟩ := hsem _ _ _ hH hP
            refine br_c (fun z => next _ _ (fun hm => ?_)) (fun z => ⟨vp_in_nI (by omega) (by omega), ?_⟩)
            · rcases hm.2 with y | y
              · exact xn y
              · exact (s1.mpr y.1) z
            · have hRM := s1.mp z
              have s3 := s2 hRM n n1 n2
              rw [en]
              refine br_c (fun y => next _ _ (fun hm => ?_)) (fun y => h1 LK LT HT' PT' i1 i2 ⟨h5, Or.inr ⟨hRM, by rw [en]; exact s3.mp y⟩⟩ (fun u hu hm hlt => i4 u hu hlt hm))
              rcases hm.2 with x | x
              · exact xn x
              · rw [en] at x; exact (s3.mpr x.2) y
          · exact br_t rfl (next HT PT (fun hm => h5 hm.1))
        have l46 : ∀ j q x5 HT PT, q + j = r → ((x5 = 1 ∧ ∀ q', q' < q → a_guardKind q' = 0 → ¬ RM q' LK) ∨ (x5 = 0 ∧ ¬ ∀ q', q' < r → a_guardKind q' = 0 → ¬ RM q' LK)) → wY_search_46 post (wY_search_28 post x1 (nI r) (d + 1)) x1 (nI r) (nI s) (j + 1) x5 (nI q) (nI tt) (nI rl) (nI rt) ph (nI cc) (nI nc) (nI rc) (nI hlc) lr ro a_ctorType a_ctorFirst a_ctorSecond a_nodeKind a_nodeArg a_nodePos a_nodeRow b_nUp a_rowFirst b_rowSize a_guardKind a_guardA a_guardB b_holePos b_holeType b_holeUp b_head b_headType b_binds LK LT b_bound HT PT := by
          intro j
          induction j with
          | zero =>
            intro q x5 HT PT hq h5
            have : q = r := by omega
            subst this
            exact br_t (nI_le (by omega) (by omega)) (j89 x5 HT PT h5)
          | succ j jh =>
            intro q x5 HT PT hq h5
            refine br_f (nI_ge (by omega) (by omega)) ?_
            rcases h5 with ⟨rfl, h5⟩ | ⟨rfl, h5⟩
            · have eq : (nI q).toNatClampNeg = q := nI_clamp (by omega)
              refine br_f (by decide) ⟨vp_in_nI (by omega) (by omega), ?_⟩
              rw [eq]
              refine br_c (fun g0 => ?_) (fun g0 => nm_r (nI_1 q) (jh (q + 1) 1 HT PT (by omega) (Or.inl ⟨rfl, lt_s h5 (fun z => absurd z g0)⟩)))
              obtain ⟨f', d', ef', ed', dpos, f48, hup, hpos, hsem⟩ := hR q (by omega)
              refine yw_matches (by omega) ef' ed' dpos f48 hup hpos (fun HT' PT' hH hP hb => ?_)
              obtain ⟨s1, s2⟩ := hsem _ _ _ hH hP
              exact br_c (fun z => nm_r (nI_1 q) (jh (q + 1) 1 HT' PT' (by omega) (Or.inl ⟨rfl, lt_s h5 (fun _ y => (s1.mpr y) z)⟩))) (fun z => nm_r (nI_1 q) (jh (q + 1) 0 HT' PT' (by omega) (Or.inr ⟨rfl, fun y => y q (by omega) g0 (s1.mp z)⟩)))
            · exact br_t rfl (j89 0 HT PT (Or.inr ⟨rfl, h5⟩))
        exact ⟨r + 1, l46 r 0 1 HT PT (by omega) (Or.inl ⟨rfl, fun q' hq' => by omega⟩)⟩
  unfold wY_search_17
  refine yw_fill (P := 1) hcc hnc hrt hF hT hl hlim ht hcn hc1 (Nat.le_refl _) (by omega) (fun q a b => by omega) (fun LK LT k1 k2 k3 => ⟨2188, loop 2187 0 1 LK LT b_hit b_part (by omega) (Or.inr ⟨rfl, fun q q1 q7 => ?_, k2, Nat.zero_le _, fun u hu hlt => ?_⟩)⟩)
  · rw [k3 q q1 q7]
    exact gh_f0_ok (fun s => ys_cn hcc hnc hrt hF hT hl hlim ht hcn hc1 q1 q7 s)
  · refine absurd hlt (sh_start hinj (fun q q1 q7 hq => ?_))
    rw [k3 q (by omega) q7]; unfold gh_f0; rw [if_neg hq]
/-- load: the shape found becomes the value -/
theorem yw_load13 {post : Int32 → SY → Prop} (h : ∀ HD HT BD, (∀ q, 1 ≤ q → q ≤ 7 → HD q = b_look q ∧ HT q = b_lookType q) → (∀ v, v < 4 → BD v = 0) → post 0 (nI tt, nI rl, nI rt, ph, nI cc, nI nc, nI rc, nI hlc, -11, ro, a_ctorType, a_ctorFirst, a_ctorSecond, a_nodeKind, a_nodeArg, a_nodePos, a_nodeRow, b_nUp, a_rowFirst, b_rowSize, a_guardKind, a_guardA, a_guardB, b_holePos, b_holeType, b_holeUp, HD, HT, BD, b_look, b_lookType, b_bound, b_hit, b_part)) : ∃ n, wY_load_13 post (nI tt) (nI rl) (nI rt) ph (nI cc) (nI nc) (nI rc) (nI hlc) lr ro n 1 a_ctorType a_ctorFirst a_ctorSecond a_nodeKind a_nodeArg a_nodePos a_nodeRow b_nUp a_rowFirst b_rowSize a_guardKind a_guardA a_guardB b_holePos b_holeType b_holeUp b_head b_headType b_binds b_look b_lookType b_bound b_hit b_part := by
  have loop : ∀ d i HD HT, i + d = 8 → 1 ≤ i → (∀ q, 1 ≤ q → q < i → HD q = b_look q ∧ HT q = b_lookType q) → wY_load_13 post (nI tt) (nI rl) (nI rt) ph (nI cc) (nI nc) (nI rc) (nI hlc) lr ro (d + 1) (nI i) a_ctorType a_ctorFirst a_ctorSecond a_nodeKind a_nodeArg a_nodePos a_nodeRow b_nUp a_rowFirst b_rowSize a_guardKind a_guardA a_guardB b_holePos b_holeType b_holeUp HD HT b_binds b_look b_lookType b_bound b_hit b_part := by
    intro d
    induction d with
    | zero =>
      intro i HD HT hi i1 h1
      have : i = 8 := by omega
      subst this
      exact br_t (nI_lt (a := 7) (b := 8) (by omega) (by omega)) (yw_forget (fun BD hBD => h HD HT BD (fun q a b => h1 q a (by omega)) hBD))
    | succ d ih =>
      intro i HD HT hi i1 h1
      have e : (nI i).toNatClampNeg = i := nI_clamp (by omega)
      have w : vp_in (nI i) 8 := vp_in_nI (by omega) (by omega)
      refine br_f (nI_nlt (a := 7) (b := i) (by omega) (by omega)) ⟨w, w, nm_r (e' := upd HD i (b_look i)) (by rw [e]) ⟨w, w, nm_r (e' := upd HT i (b_lookType i)) (by rw [e]) (nm_r (nI_1 i) (ih (i + 1) _ _ (by omega) (by omega) (fun q q1 q2 => ?_)))⟩⟩
      by_cases z : q = i
      · subst z; exact ⟨pk_us, pk_us⟩
      · rw [pk_un z, pk_un z]; exact h1 q q1 (by omega)
  exact ⟨8, loop 7 1 b_head b_headType (by omega) (by omega) (fun q a b => by omega)⟩
end
end
section
/-! THE RELATION -/
def xt_cnt (cT : Nat → Int32) (x : Int32) : Nat → Nat
  | 0 => 0
  | c + 1 => xt_cnt cT x c + (if cT c = x then 1 else 0)
def rl_T (tt : Nat) (rl : Nat) (rt : Nat) (cc : Nat) (ph : Int32) (a_ctorType : Nat → Int32) (a_ctorFirst : Nat → Int32) (a_ctorSecond : Nat → Int32) (a_typeSize : Nat → Int32) (a_typeCtors : Nat → Int32) : Prop :=
  (1 ≤ tt ∧ tt ≤ 4 ∧ 1 ≤ rl ∧ rl ≤ 8 ∧ rt ≤ tt ∧ cc ≤ 12) ∧ (ph = 0 ∨ ph = 1 ∨ ph = 2) ∧ (∀ c, c < cc → ∃ k, 1 ≤ k ∧ k ≤ tt ∧ a_ctorType c = nI k) ∧ xf_OK cc tt a_ctorFirst a_ctorSecond ∧ (∀ c, c < cc → a_ctorFirst c = -1 → a_ctorSecond c = -1) ∧
  (∀ k, 1 ≤ k → k ≤ 4 → a_typeSize k = nI (xt_cnt a_ctorType (nI k) cc) ∧ xt_cnt a_ctorType (nI k) cc ≤ 3) ∧ xt_OK cc a_ctorType a_typeSize a_typeCtors ∧ (ph ≠ 0 → ∀ k, 1 ≤ k → k ≤ tt → a_typeSize k ≠ 0)
/-- a closed row -/
def rl_R (rt : Nat) (cc : Nat) (a_ctorType : Nat → Int32) (a_ctorFirst : Nat → Int32) (a_ctorSecond : Nat → Int32) (a_nodeKind : Nat → Int32) (a_nodeArg : Nat → Int32) (a_nodePos : Nat → Int32) (a_nodeRow : Nat → Int32) (b_nUp : Nat → Int32) (a_altOf : Nat → Int32) (a_altSide : Nat → Int32) (a_rowFirst : Nat → Int32) (a_rowSize : Nat → Int32) (b_rowSize : Nat → Int32) (a_guardKind : Nat → Int32) (a_guardA : Nat → Int32) (a_guardB : Nat → Int32) (a_clauseFirst : Nat → Int32) (a_clauseRow : Nat → Int32) (a_clauseNodes : Nat → Int64) (a_clauseTests : Nat → Int32) (a_testHead : Nat → Int32) (a_clauseBind : Nat → Int32) (fr : Nat → Nat) (sz : Nat → Nat) (cf : Nat → Nat) (r : Nat) : Prop :=
  fr (r + 1) = fr r + sz r ∧ a_rowFirst r = nI (fr r) ∧ a_rowSize r = nI (sz r) ∧ b_rowSize r = nI (sz r) ∧ sz r ≤ 16 ∧ tr_Op cc a_nodeKind a_nodeArg a_nodePos b_nUp a_altOf a_altSide a_ctorType a_ctorFirst a_ctorSecond (sz r) (fr r) [(1, nI rt, -1, -1, 0)] [] ∧
  (∀ n, fr r ≤ n → n < fr r + sz r → a_nodeRow n = nI r) ∧ gd_ok a_guardKind a_guardA a_guardB r ∧ a_clauseFirst r = nI (cf r) ∧ cf r ≤ cf (r + 1) ∧ 5 * cf (r + 1) ≤ 5 * cf r + 6 * sz r ∧ (∀ c, cf r ≤ c → c < cf (r + 1) → a_clauseRow c = nI r) ∧
  rf_ok cc rt a_nodeKind a_nodeArg a_nodePos b_nUp a_ctorType a_ctorFirst a_ctorSecond a_clauseTests a_testHead a_clauseBind a_clauseNodes (fr r) (sz r) (cf r) (cf (r + 1))
def rl_N (rt : Nat) (cc : Nat) (rl : Nat) (rc : Nat) (nc : Nat) (clc : Nat) (a_ctorType : Nat → Int32) (a_ctorFirst : Nat → Int32) (a_ctorSecond : Nat → Int32) (a_nodeKind : Nat → Int32) (a_nodeArg : Nat → Int32) (a_nodePos : Nat → Int32) (a_nodeRow : Nat → Int32) (b_nUp : Nat → Int32) (a_altOf : Nat → Int32) (a_altSide : Nat → Int32) (a_nodeNew : Nat → Int32) (a_rowFirst : Nat → Int32) (a_rowSize : Nat → Int32) (b_rowSize : Nat → Int32) (a_guardKind : Nat → Int32) (a_guardA : Nat → Int32) (a_guardB : Nat → Int32) (a_clauseFirst : Nat → Int32) (a_clauseRow : Nat → Int32) (a_clauseNodes : Nat → Int64) (a_clauseTests : Nat → Int32) (a_testHead : Nat → Int32) (a_clauseBind : Nat → Int32) (fr : Nat → Nat) (sz : Nat → Nat) (cf : Nat → Nat) : Prop :=
  rc ≤ rl ∧ nc ≤ 48 ∧ fr 0 = 0 ∧ cf 0 = 0 ∧ (∀ r, r < rc → rl_R rt cc a_ctorType a_ctorFirst a_ctorSecond a_nodeKind a_nodeArg a_nodePos a_nodeRow b_nUp a_altOf a_altSide a_rowFirst a_rowSize b_rowSize a_guardKind a_guardA a_guardB a_clauseFirst a_clauseRow a_clauseNodes a_clauseTests a_testHead a_clauseBind fr sz cf r) ∧ fr rc ≤ nc ∧ clc = cf rc ∧ xl_new a_nodeKind a_nodeArg a_nodePos a_nodeNew nc ∧ (∀ p, 1 ≤ p → p ≤ 7 → xl_cnt a_nodeNew a_nodePos p nc ≤ xl_lim p) ∧ (∀ n, n < nc → ∃ p, 1 ≤ p ∧ p ≤ 7 ∧ a_nodePos n = nI p)
/-- the holes, top first -/
def rl_H (HP HY HO HS bP bY bU : Nat → Int32) : List tr_H → Prop
  | [] => True
  | h :: hs => HP hs.length = nI h.1 ∧ HY hs.length = h.2.1 ∧ HO hs.length = h.2.2.2.1 ∧ HS hs.length = h.2.2.2.2 ∧ bP hs.length = nI h.1 ∧ bY hs.length = h.2.1 ∧ bU hs.length = h.2.2.1 ∧ rl_H HP HY HO HS bP bY bU hs
def rl_O (rt : Nat) (cc : Nat) (rl : Nat) (rc : Nat) (nc : Nat) (hlc : Nat) (ro : Int32) (a_ctorType : Nat → Int32) (a_ctorFirst : Nat → Int32) (a_ctorSecond : Nat → Int32) (a_nodeKind : Nat → Int32) (a_nodeArg : Nat → Int32) (a_nodePos : Nat → Int32) (a_nodeRow : Nat → Int32) (b_nUp : Nat → Int32) (a_altOf : Nat → Int32) (a_altSide : Nat → Int32) (a_rowFirst : Nat → Int32) (b_rowSize : Nat → Int32) (a_holePos : Nat → Int32) (a_holeType : Nat → Int32) (a_holeOwner : Nat → Int32) (a_holeSide : Nat → Int32) (b_holePos : Nat → Int32) (b_holeType : Nat → Int32) (b_holeUp : Nat → Int32) (fr : Nat → Nat) : Prop :=
  (ro = 0 ∧ nc = fr rc ∧ hlc = 0) ∨ (ro = 1 ∧ rc < rl ∧ a_rowFirst rc = nI (fr rc) ∧ b_rowSize rc = nI (nc - fr rc) ∧ (∀ n, fr rc ≤ n → n < nc → a_nodeRow n = nI rc) ∧ nc - fr rc + hlc ≤ 16 ∧ nc + hlc ≤ 48 ∧
    ∃ hs : List tr_H, hs.length = hlc ∧ tr_Op cc a_nodeKind a_nodeArg a_nodePos b_nUp a_altOf a_altSide a_ctorType a_ctorFirst a_ctorSecond (nc - fr rc) (fr rc) [(1, nI rt, -1, -1, 0)] hs ∧ tr_low hs ∧ rl_H a_holePos a_holeType a_holeOwner a_holeSide b_holePos b_holeType b_holeUp hs)
def rl_V (rt : Nat) (cc : Nat) (ph : Int32) (a_ctorType : Nat → Int32) (a_ctorFirst : Nat → Int32) (a_ctorSecond : Nat → Int32) (a_valType : Nat → Int32) (a_val : Nat → Int32) (b_headType : Nat → Int32) (b_head : Nat → Int32) : Prop :=
  (∀ p, 1 ≤ p → p ≤ 7 → b_headType p = a_valType p ∧ (a_valType p ≠ -1 → b_head p = a_val p) ∧ (a_valType p ≠ -1 → a_valType p = xv_pl rt cc a_ctorFirst a_ctorSecond a_valType a_val p) ∧ (a_valType p ≠ -1 → a_valType p ≠ 0 → ∃ c, c < cc ∧ a_val p = nI c ∧ a_ctorType c = a_valType p)) ∧ xv_r a_valType ∧ (ph = 0 → ∀ p, 1 ≤ p → p ≤ 7 → a_valType p = -1)
def rl_G (rt : Nat) (cc : Nat) (nc : Nat) (clc : Nat) (sc : Nat) (misF : Int32) (solM : Int64) (livM : Int64) (a_ctorType : Nat → Int32) (a_ctorFirst : Nat → Int32) (a_ctorSecond : Nat → Int32) (a_typeSize : Nat → Int32) (a_typeCtors : Nat → Int32) (a_nodeKind : Nat → Int32) (a_nodeArg : Nat → Int32) (a_nodePos : Nat → Int32) (a_nodeNew : Nat → Int32) (a_guardKind : Nat → Int32) (a_clauseRow : Nat → Int32) (a_clauseNodes : Nat → Int64) (a_clauseTests : Nat → Int32) (a_testHead : Nat → Int32) (a_litCount : Nat → Int32) (a_lits : Nat → Int32) (a_freshInt : Nat → Int32) (a_stateMask : Nat → Int64) (a_stateOpen : Nat → Int32) (a_statePos : Nat → Int32) (a_child : Nat → Int32) : Prop :=
  xl_OK a_nodeKind a_nodeArg a_nodePos a_nodeNew nc a_litCount a_lits a_freshInt ∧
  xg_Fin clc (xc_t a_clauseTests) (xc_h a_testHead) (xc_r a_clauseRow) (xc_s a_clauseRow a_guardKind) (nI rt) (xc_f cc a_ctorFirst a_ctorSecond) (xc_n a_litCount a_typeSize) (xc_d a_litCount a_lits a_freshInt a_typeCtors) sc a_stateMask a_stateOpen a_statePos a_child ∧
  (∀ c, bi_L solM c = true ↔ c < clc ∧ xc_s a_clauseRow a_guardKind c = true) ∧
  (misF ≠ 0 ↔ ∃ v, gh_Sh (nI rt) (xc_f cc a_ctorFirst a_ctorSecond) (xc_n a_litCount a_typeSize) (xc_d a_litCount a_lits a_freshInt a_typeCtors) v ∧ ∀ c, c < clc → xc_s a_clauseRow a_guardKind c = true → ¬ gh_Mt (xc_t a_clauseTests) (xc_h a_testHead) v c) ∧
  (∀ n, bi_L livM n = true ↔ ∃ v c, gh_Sh (nI rt) (xc_f cc a_ctorFirst a_ctorSecond) (xc_n a_litCount a_typeSize) (xc_d a_litCount a_lits a_freshInt a_typeCtors) v ∧ gh_Sel clc (xc_t a_clauseTests) (xc_h a_testHead) (xc_r a_clauseRow) (xc_s a_clauseRow a_guardKind) v c ∧ bi_L (a_clauseNodes c) n = true)
def rl_All (tt : Nat) (rl : Nat) (rt : Nat) (cc : Nat) (ph : Int32) (a_ctorType : Nat → Int32) (a_ctorFirst : Nat → Int32) (a_ctorSecond : Nat → Int32) (a_typeSize : Nat → Int32) (a_typeCtors : Nat → Int32) (rc : Nat) (nc : Nat) (clc : Nat) (a_nodeKind : Nat → Int32) (a_nodeArg : Nat → Int32) (a_nodePos : Nat → Int32) (a_nodeRow : Nat → Int32) (b_nUp : Nat → Int32) (a_altOf : Nat → Int32) (a_altSide : Nat → Int32) (a_nodeNew : Nat → Int32) (a_rowFirst : Nat → Int32) (a_rowSize : Nat → Int32) (b_rowSize : Nat → Int32) (a_guardKind : Nat → Int32) (a_guardA : Nat → Int32) (a_guardB : Nat → Int32) (a_clauseFirst : Nat → Int32) (a_clauseRow : Nat → Int32) (a_clauseNodes : Nat → Int64) (a_clauseTests : Nat → Int32) (a_testHead : Nat → Int32) (a_clauseBind : Nat → Int32) (hlc : Nat) (ro : Int32) (a_holePos : Nat → Int32) (a_holeType : Nat → Int32) (a_holeOwner : Nat → Int32) (a_holeSide : Nat → Int32) (b_holePos : Nat → Int32) (b_holeType : Nat → Int32) (b_holeUp : Nat → Int32) (a_valType : Nat → Int32) (a_val : Nat → Int32) (b_headType : Nat → Int32) (b_head : Nat → Int32) (sc : Nat) (misF : Int32) (solM : Int64) (livM : Int64) (a_litCount : Nat → Int32) (a_lits : Nat → Int32) (a_freshInt : Nat → Int32) (a_stateMask : Nat → Int64) (a_stateOpen : Nat → Int32) (a_statePos : Nat → Int32) (a_child : Nat → Int32) (a_bound : Nat → Int32) (b_binds : Nat → Int32) : Prop :=
  ∃ fr sz cf : Nat → Nat, rl_T tt rl rt cc ph a_ctorType a_ctorFirst a_ctorSecond a_typeSize a_typeCtors ∧ rl_N rt cc rl rc nc clc a_ctorType a_ctorFirst a_ctorSecond a_nodeKind a_nodeArg a_nodePos a_nodeRow b_nUp a_altOf a_altSide a_nodeNew a_rowFirst a_rowSize b_rowSize a_guardKind a_guardA a_guardB a_clauseFirst a_clauseRow a_clauseNodes a_clauseTests a_testHead a_clauseBind fr sz cf ∧ rl_O rt cc rl rc nc hlc ro a_ctorType a_ctorFirst a_ctorSecond a_nodeKind a_nodeArg a_nodePos a_nodeRow b_nUp a_altOf a_altSide a_rowFirst b_rowSize a_holePos a_holeType a_holeOwner a_holeSide b_holePos b_holeType b_holeUp fr ∧ rl_V rt cc ph a_ctorType a_ctorFirst a_ctorSecond a_valType a_val b_headType b_head ∧ (∀ v, v < 4 → a_bound v = b_binds v) ∧ (ph = 2 → rl_G rt cc nc clc sc misF solM livM a_ctorType a_ctorFirst a_ctorSecond a_typeSize a_typeCtors a_nodeKind a_nodeArg a_nodePos a_nodeNew a_guardKind a_clauseRow a_clauseNodes a_clauseTests a_testHead a_litCount a_lits a_freshInt a_stateMask a_stateOpen a_statePos a_child) ∧ (ph = 0 → rc = 0 ∧ nc = 0) ∧ (ro ≠ 0 → ph = 1)
def i_Rel (k : Nat) (u : SX) (v : SY) : Prop := match u, v with
  | (f_typeTotal, f_rowLimit, f_rootType, f_phase, f_ctorCount, f_rowCount, f_rowOpen, f_nodeCount, f_holeCount, f_clauseCount, f_stateCount, f_solidClauses, f_liveNodes, f_someMissing, f_queueTail, f_lastRow, a_ctorType, a_ctorFirst, a_ctorSecond, a_typeSize, a_typeCtors, a_rowFirst, a_rowSize, a_guardKind, a_guardA, a_guardB, a_clauseFirst, a_nodeKind, a_nodeArg, a_nodePos, a_nodeRow, a_altOf, a_altSide, a_nodeNew, a_after, a_holePos, a_holeType, a_holeOwner, a_holeSide, a_clauseRow, a_clauseNodes, a_clauseTests, a_testHead, a_clauseBind, a_litCount, a_lits, a_freshInt, a_stateMask, a_stateOpen, a_statePos, a_stateNext, a_child, a_bucketHead, a_pin, a_marked, a_queue, a_val, a_valType, a_bound), (g_types, g_maxRows, g_root, g_phase, g_ctorCount, g_nodeCount, g_rowCount, g_holeCount, g_lastRow, g_open, h_cType, h_cF1, h_cF2, h_nKind, h_nArg, h_nPos, h_nRow, h_nUp, h_rowFirst, h_rowSize, h_gKind, h_gA, h_gB, h_holePos, h_holeType, h_holeUp, h_head, h_headType, h_binds, h_look, h_lookType, h_bound, h_hit, h_part) => ∃ (tt rl rt cc rc nc hlc clc sc qt : Nat) (ph ro misF lr : Int32) (solM livM : Int64) (b_nUp b_rowSize b_holePos b_holeType b_holeUp b_head b_headType b_binds b_look b_lookType b_bound b_hit b_part : Nat → Int32), (f_typeTotal = nI tt ∧ f_rowLimit = nI rl ∧ f_rootType = nI rt ∧ f_phase = ph ∧ f_ctorCount = nI cc ∧ f_rowCount = nI rc ∧ f_rowOpen = ro ∧ f_nodeCount = nI nc ∧ f_holeCount = nI hlc ∧ f_clauseCount = nI clc ∧ f_stateCount = nI sc ∧ f_solidClauses = solM ∧ f_liveNodes = livM ∧ f_someMissing = misF ∧ f_queueTail = nI qt ∧ f_lastRow = lr) ∧ (g_types = nI tt ∧ g_maxRows = nI rl ∧ g_root = nI rt ∧ g_phase = ph ∧ g_ctorCount = nI cc ∧ g_nodeCount = nI nc ∧ g_rowCount = nI rc ∧ g_holeCount = nI hlc ∧ g_lastRow = lr ∧ g_open = ro ∧ h_cType = a_ctorType ∧ h_cF1 = a_ctorFirst ∧ h_cF2 = a_ctorSecond ∧ h_nKind = a_nodeKind ∧ h_nArg = a_nodeArg ∧ h_nPos = a_nodePos ∧ h_nRow = a_nodeRow ∧ h_nUp = b_nUp ∧ h_rowFirst = a_rowFirst ∧ h_rowSize = b_rowSize ∧ h_gKind = a_guardKind ∧ h_gA = a_guardA ∧ h_gB = a_guardB ∧ h_holePos = b_holePos ∧ h_holeType = b_holeType ∧ h_holeUp = b_holeUp ∧ h_head = b_head ∧ h_headType = b_headType ∧ h_binds = b_binds ∧ h_look = b_look ∧ h_lookType = b_lookType ∧ h_bound = b_bound ∧ h_hit = b_hit ∧ h_part = b_part) ∧ rl_All tt rl rt cc ph a_ctorType a_ctorFirst a_ctorSecond a_typeSize a_typeCtors rc nc clc a_nodeKind a_nodeArg a_nodePos a_nodeRow b_nUp a_altOf a_altSide a_nodeNew a_rowFirst a_rowSize b_rowSize a_guardKind a_guardA a_guardB a_clauseFirst a_clauseRow a_clauseNodes a_clauseTests a_testHead a_clauseBind hlc ro a_holePos a_holeType a_holeOwner a_holeSide b_holePos b_holeType b_holeUp a_valType a_val b_headType b_head sc misF solM livM a_litCount a_lits a_freshInt a_stateMask a_stateOpen a_statePos a_child a_bound b_binds
theorem i_up {k : Nat} {u : SX} {v : SY} (h : i_Rel k u v) : i_Rel (k + 4) u v := h
section
variable {tt rl rt cc rc nc hlc clc sc qt : Nat} {ph ro misF lr : Int32} {solM livM : Int64} {a_ctorType a_ctorFirst a_ctorSecond a_typeSize a_typeCtors a_rowFirst a_rowSize a_guardKind a_guardA a_guardB a_clauseFirst a_nodeKind a_nodeArg a_nodePos a_nodeRow a_altOf a_altSide a_nodeNew a_after a_holePos a_holeType a_holeOwner a_holeSide a_clauseRow a_clauseTests a_testHead a_clauseBind a_litCount a_lits a_freshInt a_stateOpen a_statePos a_stateNext a_child a_bucketHead a_pin a_marked a_queue a_val a_valType a_bound : Nat → Int32} {a_clauseNodes a_stateMask : Nat → Int64} {b_nUp b_rowSize b_holePos b_holeType b_holeUp b_head b_headType b_binds b_look b_lookType b_bound b_hit b_part : Nat → Int32}
theorem zz_in {k : Nat} (h : rl_All tt rl rt cc ph a_ctorType a_ctorFirst a_ctorSecond a_typeSize a_typeCtors rc nc clc a_nodeKind a_nodeArg a_nodePos a_nodeRow b_nUp a_altOf a_altSide a_nodeNew a_rowFirst a_rowSize b_rowSize a_guardKind a_guardA a_guardB a_clauseFirst a_clauseRow a_clauseNodes a_clauseTests a_testHead a_clauseBind hlc ro a_holePos a_holeType a_holeOwner a_holeSide b_holePos b_holeType b_holeUp a_valType a_val b_headType b_head sc misF solM livM a_litCount a_lits a_freshInt a_stateMask a_stateOpen a_statePos a_child a_bound b_binds) : i_Rel k (nI tt, nI rl, nI rt, ph, nI cc, nI rc, ro, nI nc, nI hlc, nI clc, nI sc, solM, livM, misF, nI qt, lr, a_ctorType, a_ctorFirst, a_ctorSecond, a_typeSize, a_typeCtors, a_rowFirst, a_rowSize, a_guardKind, a_guardA, a_guardB, a_clauseFirst, a_nodeKind, a_nodeArg, a_nodePos, a_nodeRow, a_altOf, a_altSide, a_nodeNew, a_after, a_holePos, a_holeType, a_holeOwner, a_holeSide, a_clauseRow, a_clauseNodes, a_clauseTests, a_testHead, a_clauseBind, a_litCount, a_lits, a_freshInt, a_stateMask, a_stateOpen, a_statePos, a_stateNext, a_child, a_bucketHead, a_pin, a_marked, a_queue, a_val, a_valType, a_bound) (nI tt, nI rl, nI rt, ph, nI cc, nI nc, nI rc, nI hlc, lr, ro, a_ctorType, a_ctorFirst, a_ctorSecond, a_nodeKind, a_nodeArg, a_nodePos, a_nodeRow, b_nUp, a_rowFirst, b_rowSize, a_guardKind, a_guardA, a_guardB, b_holePos, b_holeType, b_holeUp, b_head, b_headType, b_binds, b_look, b_lookType, b_bound, b_hit, b_part) :=
  ⟨tt, rl, rt, cc, rc, nc, hlc, clc, sc, qt, ph, ro, misF, lr, solM, livM, b_nUp, b_rowSize, b_holePos, b_holeType, b_holeUp, b_head, b_headType, b_binds, b_look, b_lookType, b_bound, b_hit, b_part, ⟨rfl, rfl, rfl, rfl, rfl, rfl, rfl, rfl, rfl, rfl, rfl, rfl, rfl, rfl, rfl, rfl⟩, ⟨rfl, rfl, rfl, rfl, rfl, rfl, rfl, rfl, rfl, rfl, rfl, rfl, rfl, rfl, rfl, rfl, rfl, rfl, rfl, rfl, rfl, rfl, rfl, rfl, rfl, rfl, rfl, rfl, rfl, rfl, rfl, rfl, rfl, rfl⟩, h⟩
end
end
section
theorem zz_el {P : SX → SY → Prop} {k : Nat} {u : SX} {v : SY} (h : ∀ (tt rl rt cc rc nc hlc clc sc qt : Nat) (ph ro misF lr : Int32) (solM livM : Int64) (a_ctorType a_ctorFirst a_ctorSecond a_typeSize a_typeCtors a_rowFirst a_rowSize a_guardKind a_guardA a_guardB a_clauseFirst a_nodeKind a_nodeArg a_nodePos a_nodeRow a_altOf a_altSide a_nodeNew a_after a_holePos a_holeType a_holeOwner a_holeSide a_clauseRow a_clauseTests a_testHead a_clauseBind a_litCount a_lits a_freshInt a_stateOpen a_statePos a_stateNext a_child a_bucketHead a_pin a_marked a_queue a_val a_valType a_bound : Nat → Int32) (a_clauseNodes a_stateMask : Nat → Int64) (b_nUp b_rowSize b_holePos b_holeType b_holeUp b_head b_headType b_binds b_look b_lookType b_bound b_hit b_part : Nat → Int32), rl_All tt rl rt cc ph a_ctorType a_ctorFirst a_ctorSecond a_typeSize a_typeCtors rc nc clc a_nodeKind a_nodeArg a_nodePos a_nodeRow b_nUp a_altOf a_altSide a_nodeNew a_rowFirst a_rowSize b_rowSize a_guardKind a_guardA a_guardB a_clauseFirst a_clauseRow a_clauseNodes a_clauseTests a_testHead a_clauseBind hlc ro a_holePos a_holeType a_holeOwner a_holeSide b_holePos b_holeType b_holeUp a_valType a_val b_headType b_head sc misF solM livM a_litCount a_lits a_freshInt a_stateMask a_stateOpen a_statePos a_child a_bound b_binds → P (nI tt, nI rl, nI rt, ph, nI cc, nI rc, ro, nI nc, nI hlc, nI clc, nI sc, solM, livM, misF, nI qt, lr, a_ctorType, a_ctorFirst, a_ctorSecond, a_typeSize, a_typeCtors, a_rowFirst, a_rowSize, a_guardKind, a_guardA, a_guardB, a_clauseFirst, a_nodeKind, a_nodeArg, a_nodePos, a_nodeRow, a_altOf, a_altSide, a_nodeNew, a_after, a_holePos, a_holeType, a_holeOwner, a_holeSide, a_clauseRow, a_clauseNodes, a_clauseTests, a_testHead, a_clauseBind, a_litCount, a_lits, a_freshInt, a_stateMask, a_stateOpen, a_statePos, a_stateNext, a_child, a_bucketHead, a_pin, a_marked, a_queue, a_val, a_valType, a_bound) (nI tt, nI rl, nI rt, ph, nI cc, nI nc, nI rc, nI hlc, lr, ro, a_ctorType, a_ctorFirst, a_ctorSecond, a_nodeKind, a_nodeArg, a_nodePos, a_nodeRow, b_nUp, a_rowFirst, b_rowSize, a_guardKind, a_guardA, a_guardB, b_holePos, b_holeType, b_holeUp, b_head, b_headType, b_binds, b_look, b_lookType, b_bound, b_hit, b_part)) (I : i_Rel k u v) : P u v := by
  obtain ⟨f_typeTotal, f_rowLimit, f_rootType, f_phase, f_ctorCount, f_rowCount, f_rowOpen, f_nodeCount, f_holeCount, f_clauseCount, f_stateCount, f_solidClauses, f_liveNodes, f_someMissing, f_queueTail, f_lastRow, a_ctorType, a_ctorFirst, a_ctorSecond, a_typeSize, a_typeCtors, a_rowFirst, a_rowSize, a_guardKind, a_guardA, a_guardB, a_clauseFirst, a_nodeKind, a_nodeArg, a_nodePos, a_nodeRow, a_altOf, a_altSide, a_nodeNew, a_after, a_holePos, a_holeType, a_holeOwner, a_holeSide, a_clauseRow, a_clauseNodes, a_clauseTests, a_testHead, a_clauseBind, a_litCount, a_lits, a_freshInt, a_stateMask, a_stateOpen, a_statePos, a_stateNext, a_child, a_bucketHead, a_pin, a_marked, a_queue, a_val, a_valType, a_bound⟩ := u
  obtain ⟨g_types, g_maxRows, g_root, g_phase, g_ctorCount, g_nodeCount, g_rowCount, g_holeCount, g_lastRow, g_open, h_cType, h_cF1, h_cF2, h_nKind, h_nArg, h_nPos, h_nRow, h_nUp, h_rowFirst, h_rowSize, h_gKind, h_gA, h_gB, h_holePos, h_holeType, h_holeUp, h_head, h_headType, h_binds, h_look, h_lookType, h_bound, h_hit, h_part⟩ := v
  obtain ⟨tt, rl, rt, cc, rc, nc, hlc, clc, sc, qt, ph, ro, misF, lr, solM, livM, b_nUp, b_rowSize, b_holePos, b_holeType, b_holeUp, b_head, b_headType, b_binds, b_look, b_lookType, b_bound, b_hit, b_part, ⟨rfl, rfl, rfl, rfl, rfl, rfl, rfl, rfl, rfl, rfl, rfl, rfl, rfl, rfl, rfl, rfl⟩, ⟨rfl, rfl, rfl, rfl, rfl, rfl, rfl, rfl, rfl, rfl, rfl, rfl, rfl, rfl, rfl, rfl, rfl, rfl, rfl, rfl, rfl, rfl, rfl, rfl, rfl, rfl, rfl, rfl, rfl, rfl, rfl, rfl, rfl, rfl⟩, hA⟩ := I
  exact h _ _ _ _ _ _ _ _ _ _ _ _ _ _ _ _ _ _ _ _ _ _ _ _ _ _ _ _ _ _ _ _ _ _ _ _ _ _ _ _ _ _ _ _ _ _ _ _ _ _ _ _ _ _ _ _ _ _ _ _ _ _ _ _ _ _ _ _ _ _ _ _ hA
end
section
section
variable {tt rl rt cc rc nc hlc clc sc qt : Nat} {ph ro misF lr : Int32} {solM livM : Int64} {a_ctorType a_ctorFirst a_ctorSecond a_typeSize a_typeCtors a_rowFirst a_rowSize a_guardKind a_guardA a_guardB a_clauseFirst a_nodeKind a_nodeArg a_nodePos a_nodeRow a_altOf a_altSide a_nodeNew a_after a_holePos a_holeType a_holeOwner a_holeSide a_clauseRow a_clauseTests a_testHead a_clauseBind a_litCount a_lits a_freshInt a_stateOpen a_statePos a_stateNext a_child a_bucketHead a_pin a_marked a_queue a_val a_valType a_bound : Nat → Int32} {a_clauseNodes a_stateMask : Nat → Int64} {b_nUp b_rowSize b_holePos b_holeType b_holeUp b_head b_headType b_binds b_look b_lookType b_bound b_hit b_part : Nat → Int32}
variable {k : Nat} {fr sz cf : Nat → Nat}
theorem rl_top (h : rl_O rt cc rl rc nc hlc ro a_ctorType a_ctorFirst a_ctorSecond a_nodeKind a_nodeArg a_nodePos a_nodeRow b_nUp a_altOf a_altSide a_rowFirst b_rowSize a_holePos a_holeType a_holeOwner a_holeSide b_holePos b_holeType b_holeUp fr) (hp : 0 < hlc) : ∃ hd hs, hlc = hs.length + 1 ∧ hlc ≤ 16 ∧ a_holePos (hlc - 1) = nI hd.1 ∧ b_holePos (hlc - 1) = nI hd.1 ∧ a_holeType (hlc - 1) = hd.2.1 ∧ b_holeType (hlc - 1) = hd.2.1 ∧ (1 ≤ hd.1 ∧ hd.1 ≤ 7) ∧ ro = 1 ∧ (hd :: hs).length = hlc ∧ tr_low (hd :: hs) ∧ tr_Op cc a_nodeKind a_nodeArg a_nodePos b_nUp a_altOf a_altSide a_ctorType a_ctorFirst a_ctorSecond (nc - fr rc) (fr rc) [(1, nI rt, -1, -1, 0)] (hd :: hs) ∧ rl_H a_holePos a_holeType a_holeOwner a_holeSide b_holePos b_holeType b_holeUp (hd :: hs) := by
  rcases h with ⟨_, _, h⟩ | ⟨h1, h2, h3, h4, h5, h6, h7, hs, h8, h9, h10, h11⟩
  · omega
  · cases hs with
    | nil => simp at h8; omega
    | cons hd hs =>
      have h8' : hs.length + 1 = hlc := by simpa using h8
      have e : hlc - 1 = hs.length := by omega
      obtain ⟨a1, a2, a3, a4, a5, a6, a7, a8⟩ := h11
      rw [e]
      exact ⟨hd, hs, by omega, by omega, a1, a5, a2, a6, h10 hd (List.mem_cons_self ..), h1, h8, h10, h9, ⟨a1, a2, a3, a4, a5, a6, a7, a8⟩⟩
theorem rl_full (h : rl_V rt cc ph a_ctorType a_ctorFirst a_ctorSecond a_valType a_val b_headType b_head) : xv_full rt cc a_ctorFirst a_ctorSecond b_headType b_head ↔ xv_full rt cc a_ctorFirst a_ctorSecond a_valType a_val := by
  have e : ∀ p, 1 ≤ p → p ≤ 7 → xv_pl rt cc a_ctorFirst a_ctorSecond b_headType b_head p = xv_pl rt cc a_ctorFirst a_ctorSecond a_valType a_val p := by
    intro p p1 p7
    unfold xv_pl
    by_cases q : p = 1
    · rw [if_pos q, if_pos q]
    · rw [if_neg q, if_neg q]
      obtain ⟨a, b, _⟩ := h.1 (p / 2) (by omega) (by omega)
      rw [a]
      by_cases z : a_valType (p / 2) = -1
      · unfold xc_f; rw [if_pos (Or.inl (by rw [z]; decide)), if_pos (Or.inl (by rw [z]; decide))]
      · rw [b z]
  unfold xv_full
  constructor
  · intro z p p1 p7 hp; rw [← (h.1 p p1 p7).1]; exact z p p1 p7 (by rw [e p p1 p7]; exact hp)
  · intro z p p1 p7 hp; rw [(h.1 p p1 p7).1]; exact z p p1 p7 (by rw [← e p p1 p7]; exact hp)
theorem rl_rtn (h : rl_T tt rl rt cc ph a_ctorType a_ctorFirst a_ctorSecond a_typeSize a_typeCtors) : nI rt ≠ -1 ∧ rt ≤ 4 ∧ tt ≤ 4 ∧ cc ≤ 12 := by
  obtain ⟨⟨a, b, c, d, e, f⟩, _⟩ := h
  refine ⟨fun z => ?_, by omega, b, f⟩
  have := congrArg Int32.toInt z
  rw [nI_toInt (by omega), show (-1 : Int32).toInt = -1 from by decide] at this
  omega
theorem vc_status (hA : rl_All tt rl rt cc ph a_ctorType a_ctorFirst a_ctorSecond a_typeSize a_typeCtors rc nc clc a_nodeKind a_nodeArg a_nodePos a_nodeRow b_nUp a_altOf a_altSide a_nodeNew a_rowFirst a_rowSize b_rowSize a_guardKind a_guardA a_guardB a_clauseFirst a_clauseRow a_clauseNodes a_clauseTests a_testHead a_clauseBind hlc ro a_holePos a_holeType a_holeOwner a_holeSide b_holePos b_holeType b_holeUp a_valType a_val b_headType b_head sc misF solM livM a_litCount a_lits a_freshInt a_stateMask a_stateOpen a_statePos a_child a_bound b_binds) (v1 : Int32) : wpX_status (fun r => wpY_status (fun r' => r' = r ∧ i_Rel (k + 4) (nI tt, nI rl, nI rt, ph, nI cc, nI rc, ro, nI nc, nI hlc, nI clc, nI sc, solM, livM, misF, nI qt, lr, a_ctorType, a_ctorFirst, a_ctorSecond, a_typeSize, a_typeCtors, a_rowFirst, a_rowSize, a_guardKind, a_guardA, a_guardB, a_clauseFirst, a_nodeKind, a_nodeArg, a_nodePos, a_nodeRow, a_altOf, a_altSide, a_nodeNew, a_after, a_holePos, a_holeType, a_holeOwner, a_holeSide, a_clauseRow, a_clauseNodes, a_clauseTests, a_testHead, a_clauseBind, a_litCount, a_lits, a_freshInt, a_stateMask, a_stateOpen, a_statePos, a_stateNext, a_child, a_bucketHead, a_pin, a_marked, a_queue, a_val, a_valType, a_bound) (nI tt, nI rl, nI rt, ph, nI cc, nI nc, nI rc, nI hlc, lr, ro, a_ctorType, a_ctorFirst, a_ctorSecond, a_nodeKind, a_nodeArg, a_nodePos, a_nodeRow, b_nUp, a_rowFirst, b_rowSize, a_guardKind, a_guardA, a_guardB, b_holePos, b_holeType, b_holeUp, b_head, b_headType, b_binds, b_look, b_lookType, b_bound, b_hit, b_part)) (nI tt, nI rl, nI rt, ph, nI cc, nI nc, nI rc, nI hlc, lr, ro, a_ctorType, a_ctorFirst, a_ctorSecond, a_nodeKind, a_nodeArg, a_nodePos, a_nodeRow, b_nUp, a_rowFirst, b_rowSize, a_guardKind, a_guardA, a_guardB, b_holePos, b_holeType, b_holeUp, b_head, b_headType, b_binds, b_look, b_lookType, b_bound, b_hit, b_part) v1) (nI tt, nI rl, nI rt, ph, nI cc, nI rc, ro, nI nc, nI hlc, nI clc, nI sc, solM, livM, misF, nI qt, lr, a_ctorType, a_ctorFirst, a_ctorSecond, a_typeSize, a_typeCtors, a_rowFirst, a_rowSize, a_guardKind, a_guardA, a_guardB, a_clauseFirst, a_nodeKind, a_nodeArg, a_nodePos, a_nodeRow, a_altOf, a_altSide, a_nodeNew, a_after, a_holePos, a_holeType, a_holeOwner, a_holeSide, a_clauseRow, a_clauseNodes, a_clauseTests, a_testHead, a_clauseBind, a_litCount, a_lits, a_freshInt, a_stateMask, a_stateOpen, a_statePos, a_stateNext, a_child, a_bucketHead, a_pin, a_marked, a_queue, a_val, a_valType, a_bound) v1 := by
  have R : i_Rel (k + 4) (nI tt, nI rl, nI rt, ph, nI cc, nI rc, ro, nI nc, nI hlc, nI clc, nI sc, solM, livM, misF, nI qt, lr, a_ctorType, a_ctorFirst, a_ctorSecond, a_typeSize, a_typeCtors, a_rowFirst, a_rowSize, a_guardKind, a_guardA, a_guardB, a_clauseFirst, a_nodeKind, a_nodeArg, a_nodePos, a_nodeRow, a_altOf, a_altSide, a_nodeNew, a_after, a_holePos, a_holeType, a_holeOwner, a_holeSide, a_clauseRow, a_clauseNodes, a_clauseTests, a_testHead, a_clauseBind, a_litCount, a_lits, a_freshInt, a_stateMask, a_stateOpen, a_statePos, a_stateNext, a_child, a_bucketHead, a_pin, a_marked, a_queue, a_val, a_valType, a_bound) (nI tt, nI rl, nI rt, ph, nI cc, nI nc, nI rc, nI hlc, lr, ro, a_ctorType, a_ctorFirst, a_ctorSecond, a_nodeKind, a_nodeArg, a_nodePos, a_nodeRow, b_nUp, a_rowFirst, b_rowSize, a_guardKind, a_guardA, a_guardB, b_holePos, b_holeType, b_holeUp, b_head, b_headType, b_binds, b_look, b_lookType, b_bound, b_hit, b_part) := zz_in hA
  obtain ⟨fr, sz, cf, hT, hN, hO, hV, hB, hG, h0, h1⟩ := hA
  by_cases c0 : v1 < 0
  · exact br_t c0 (br_t c0 ⟨rfl, R⟩)
  by_cases c12 : 12 < v1
  · exact br_f c0 (br_t c12 (br_f c0 (br_t c12 ⟨rfl, R⟩)))
  obtain ⟨j, hj, rfl⟩ := nI_of2 (M := 12) (n := 12) (by decide) c0 (Int32.not_lt.mp c12)
  have hh : hlc ≤ 16 := by
    rcases hO with ⟨_, _, h⟩ | ⟨_, _, _, _, _, h6, _⟩ <;> omega
  have cj : j = 0 ∨ j = 1 ∨ j = 2 ∨ j = 3 ∨ j = 4 ∨ j = 5 ∨ j = 6 ∨ j = 7 ∨ j = 8 ∨ j = 9 ∨ j = 10 ∨ j = 11 ∨ j = 12 := by omega
  rcases cj with rfl | rfl | rfl | rfl | rfl | rfl | rfl | rfl | rfl | rfl | rfl | rfl | rfl
  · repeat (first | refine br_t (by decide) ?_ | refine br_f (by decide) ?_)
    exact ⟨rfl, R⟩
  · repeat (first | refine br_t (by decide) ?_ | refine br_f (by decide) ?_)
    exact ⟨rfl, R⟩
  · repeat (first | refine br_t (by decide) ?_ | refine br_f (by decide) ?_)
    exact ⟨rfl, R⟩
  · repeat (first | refine br_t (by decide) ?_ | refine br_f (by decide) ?_)
    exact ⟨rfl, R⟩
  · repeat (first | refine br_t (by decide) ?_ | refine br_f (by decide) ?_)
    exact ⟨rfl, R⟩
  · repeat (first | refine br_t (by decide) ?_ | refine br_f (by decide) ?_)
    exact ⟨rfl, R⟩
  · repeat (first | refine br_t (by decide) ?_ | refine br_f (by decide) ?_)
    refine br_c (fun z => ?_) (fun z => ?_)
    · repeat (first | refine br_t (by decide) ?_ | refine br_f (by decide) ?_)
      exact br_t z ⟨rfl, R⟩
    · repeat (first | refine br_t (by decide) ?_ | refine br_f (by decide) ?_)
      exact br_f z ⟨rfl, R⟩
  · repeat (first | refine br_t (by decide) ?_ | refine br_f (by decide) ?_)
    exact ⟨rfl, R⟩
  · repeat (first | refine br_t (by decide) ?_ | refine br_f (by decide) ?_)
    exact ⟨rfl, R⟩
  · repeat (first | refine br_t (by decide) ?_ | refine br_f (by decide) ?_)
    rcases Nat.eq_zero_or_pos hlc with z | z
    · subst z
      repeat (first | refine br_t (by decide) ?_ | refine br_f (by decide) ?_)
      exact ⟨rfl, R⟩
    · obtain ⟨hd, hs, e1, e2, a1, a2, a3, a4, _⟩ := rl_top hO z
      have e3 : nI hlc - 1 = nI (hlc - 1) := pk_sub (a := hlc) (b := 1) (by omega)
      refine br_f (nI_nle z (by omega)) ?_
      rw [e3, nI_clamp (by omega : hlc - 1 < 2 ^ 31)]
      refine ⟨vp_in_nI (by omega) (by omega), ?_⟩
      repeat (first | refine br_t (by decide) ?_ | refine br_f (by decide) ?_)
      refine br_f (nI_ne0 z (by omega)) ?_
      rw [e3, nI_clamp (by omega : hlc - 1 < 2 ^ 31)]
      exact ⟨vp_in_nI (by omega) (by omega), a2.trans a1.symm, R⟩
  · repeat (first | refine br_t (by decide) ?_ | refine br_f (by decide) ?_)
    exact ⟨rfl, R⟩
  · repeat (first | refine br_t (by decide) ?_ | refine br_f (by decide) ?_)
    rcases Nat.eq_zero_or_pos hlc with z | z
    · subst z
      repeat (first | refine br_t (by decide) ?_ | refine br_f (by decide) ?_)
      exact ⟨rfl, R⟩
    · obtain ⟨hd, hs, e1, e2, a1, a2, a3, a4, _⟩ := rl_top hO z
      have e3 : nI hlc - 1 = nI (hlc - 1) := pk_sub (a := hlc) (b := 1) (by omega)
      refine br_f (nI_nle z (by omega)) ?_
      rw [e3, nI_clamp (by omega : hlc - 1 < 2 ^ 31)]
      refine ⟨vp_in_nI (by omega) (by omega), ?_⟩
      repeat (first | refine br_t (by decide) ?_ | refine br_f (by decide) ?_)
      refine br_f (nI_ne0 z (by omega)) ?_
      rw [e3, nI_clamp (by omega : hlc - 1 < 2 ^ 31)]
      exact ⟨vp_in_nI (by omega) (by omega), a4.trans a3.symm, R⟩
  · obtain ⟨r1, r2, r3, r4⟩ := rl_rtn hT
    repeat (first | refine br_t (by decide) ?_ | refine br_f (by decide) ?_)
    refine xw_isComplete r4 hV.2.1 (lc_br (fun z => ?_) (fun z => ?_))
    · repeat (first | refine br_t (by decide) ?_ | refine br_f (by decide) ?_)
      refine yw_complete r4 r1 ?_
      have : lc_d (xv_full rt cc a_ctorFirst a_ctorSecond b_headType b_head) = false := lc_df.mpr (fun y => lc_df.mp z ((rl_full hV).mp y))
      rw [this]
      exact br_t rfl ⟨rfl, R⟩
    · repeat (first | refine br_t (by decide) ?_ | refine br_f (by decide) ?_)
      refine yw_complete r4 r1 ?_
      have : lc_d (xv_full rt cc a_ctorFirst a_ctorSecond b_headType b_head) = true := lc_dt.mpr ((rl_full hV).mpr (lc_dt.mp z))
      rw [this]
      exact br_f (by decide) ⟨rfl, R⟩
theorem vc_headAt (hA : rl_All tt rl rt cc ph a_ctorType a_ctorFirst a_ctorSecond a_typeSize a_typeCtors rc nc clc a_nodeKind a_nodeArg a_nodePos a_nodeRow b_nUp a_altOf a_altSide a_nodeNew a_rowFirst a_rowSize b_rowSize a_guardKind a_guardA a_guardB a_clauseFirst a_clauseRow a_clauseNodes a_clauseTests a_testHead a_clauseBind hlc ro a_holePos a_holeType a_holeOwner a_holeSide b_holePos b_holeType b_holeUp a_valType a_val b_headType b_head sc misF solM livM a_litCount a_lits a_freshInt a_stateMask a_stateOpen a_statePos a_child a_bound b_binds) (v1 : Int32) : wpX_headAt (fun r => wpY_headAt (fun r' => r' = r ∧ i_Rel (k + 4) (nI tt, nI rl, nI rt, ph, nI cc, nI rc, ro, nI nc, nI hlc, nI clc, nI sc, solM, livM, misF, nI qt, lr, a_ctorType, a_ctorFirst, a_ctorSecond, a_typeSize, a_typeCtors, a_rowFirst, a_rowSize, a_guardKind, a_guardA, a_guardB, a_clauseFirst, a_nodeKind, a_nodeArg, a_nodePos, a_nodeRow, a_altOf, a_altSide, a_nodeNew, a_after, a_holePos, a_holeType, a_holeOwner, a_holeSide, a_clauseRow, a_clauseNodes, a_clauseTests, a_testHead, a_clauseBind, a_litCount, a_lits, a_freshInt, a_stateMask, a_stateOpen, a_statePos, a_stateNext, a_child, a_bucketHead, a_pin, a_marked, a_queue, a_val, a_valType, a_bound) (nI tt, nI rl, nI rt, ph, nI cc, nI nc, nI rc, nI hlc, lr, ro, a_ctorType, a_ctorFirst, a_ctorSecond, a_nodeKind, a_nodeArg, a_nodePos, a_nodeRow, b_nUp, a_rowFirst, b_rowSize, a_guardKind, a_guardA, a_guardB, b_holePos, b_holeType, b_holeUp, b_head, b_headType, b_binds, b_look, b_lookType, b_bound, b_hit, b_part)) (nI tt, nI rl, nI rt, ph, nI cc, nI nc, nI rc, nI hlc, lr, ro, a_ctorType, a_ctorFirst, a_ctorSecond, a_nodeKind, a_nodeArg, a_nodePos, a_nodeRow, b_nUp, a_rowFirst, b_rowSize, a_guardKind, a_guardA, a_guardB, b_holePos, b_holeType, b_holeUp, b_head, b_headType, b_binds, b_look, b_lookType, b_bound, b_hit, b_part) v1) (nI tt, nI rl, nI rt, ph, nI cc, nI rc, ro, nI nc, nI hlc, nI clc, nI sc, solM, livM, misF, nI qt, lr, a_ctorType, a_ctorFirst, a_ctorSecond, a_typeSize, a_typeCtors, a_rowFirst, a_rowSize, a_guardKind, a_guardA, a_guardB, a_clauseFirst, a_nodeKind, a_nodeArg, a_nodePos, a_nodeRow, a_altOf, a_altSide, a_nodeNew, a_after, a_holePos, a_holeType, a_holeOwner, a_holeSide, a_clauseRow, a_clauseNodes, a_clauseTests, a_testHead, a_clauseBind, a_litCount, a_lits, a_freshInt, a_stateMask, a_stateOpen, a_statePos, a_stateNext, a_child, a_bucketHead, a_pin, a_marked, a_queue, a_val, a_valType, a_bound) v1 := by
  have R : i_Rel (k + 4) (nI tt, nI rl, nI rt, ph, nI cc, nI rc, ro, nI nc, nI hlc, nI clc, nI sc, solM, livM, misF, nI qt, lr, a_ctorType, a_ctorFirst, a_ctorSecond, a_typeSize, a_typeCtors, a_rowFirst, a_rowSize, a_guardKind, a_guardA, a_guardB, a_clauseFirst, a_nodeKind, a_nodeArg, a_nodePos, a_nodeRow, a_altOf, a_altSide, a_nodeNew, a_after, a_holePos, a_holeType, a_holeOwner, a_holeSide, a_clauseRow, a_clauseNodes, a_clauseTests, a_testHead, a_clauseBind, a_litCount, a_lits, a_freshInt, a_stateMask, a_stateOpen, a_statePos, a_stateNext, a_child, a_bucketHead, a_pin, a_marked, a_queue, a_val, a_valType, a_bound) (nI tt, nI rl, nI rt, ph, nI cc, nI nc, nI rc, nI hlc, lr, ro, a_ctorType, a_ctorFirst, a_ctorSecond, a_nodeKind, a_nodeArg, a_nodePos, a_nodeRow, b_nUp, a_rowFirst, b_rowSize, a_guardKind, a_guardA, a_guardB, b_holePos, b_holeType, b_holeUp, b_head, b_headType, b_binds, b_look, b_lookType, b_bound, b_hit, b_part) := zz_in hA
  obtain ⟨fr, sz, cf, hT, hN, hO, hV, hB, hG, h0, h1⟩ := hA
  by_cases c0 : v1 < 1
  · exact br_t c0 (br_t c0 ⟨rfl, R⟩)
  by_cases c7 : 7 < v1
  · exact br_f c0 (br_t c7 (br_f c0 (br_t c7 ⟨rfl, R⟩)))
  have n0 : ¬ v1 < 0 := fun z => c0 (Int32.lt_trans z (by decide))
  obtain ⟨p, hp, rfl⟩ := nI_of2 (M := 7) (n := 7) (by decide) n0 (Int32.not_lt.mp c7)
  have p1 : 1 ≤ p := by
    rcases Nat.eq_zero_or_pos p with z | z
    · subst z; exact absurd (by decide) c0
    · exact z
  have e : (nI p).toNatClampNeg = p := nI_clamp (by omega)
  have w : vp_in (nI p) 8 := vp_in_nI (by omega) (by omega)
  obtain ⟨a, b, _⟩ := hV.1 p p1 hp
  refine br_f c0 (br_f c7 ⟨w, ?_⟩)
  rw [e]
  refine br_c (fun z => br_f c0 (br_f c7 ⟨w, ?_⟩)) (fun z => ⟨w, br_f c0 (br_f c7 ⟨w, ?_⟩)⟩)
  · rw [e, a]; exact br_t z ⟨rfl, R⟩
  · rw [e, a]; exact br_f z ⟨w, b z, R⟩
theorem vc_typeAt (hA : rl_All tt rl rt cc ph a_ctorType a_ctorFirst a_ctorSecond a_typeSize a_typeCtors rc nc clc a_nodeKind a_nodeArg a_nodePos a_nodeRow b_nUp a_altOf a_altSide a_nodeNew a_rowFirst a_rowSize b_rowSize a_guardKind a_guardA a_guardB a_clauseFirst a_clauseRow a_clauseNodes a_clauseTests a_testHead a_clauseBind hlc ro a_holePos a_holeType a_holeOwner a_holeSide b_holePos b_holeType b_holeUp a_valType a_val b_headType b_head sc misF solM livM a_litCount a_lits a_freshInt a_stateMask a_stateOpen a_statePos a_child a_bound b_binds) (v1 : Int32) : wpX_typeAt (fun r => wpY_typeAt (fun r' => r' = r ∧ i_Rel (k + 4) (nI tt, nI rl, nI rt, ph, nI cc, nI rc, ro, nI nc, nI hlc, nI clc, nI sc, solM, livM, misF, nI qt, lr, a_ctorType, a_ctorFirst, a_ctorSecond, a_typeSize, a_typeCtors, a_rowFirst, a_rowSize, a_guardKind, a_guardA, a_guardB, a_clauseFirst, a_nodeKind, a_nodeArg, a_nodePos, a_nodeRow, a_altOf, a_altSide, a_nodeNew, a_after, a_holePos, a_holeType, a_holeOwner, a_holeSide, a_clauseRow, a_clauseNodes, a_clauseTests, a_testHead, a_clauseBind, a_litCount, a_lits, a_freshInt, a_stateMask, a_stateOpen, a_statePos, a_stateNext, a_child, a_bucketHead, a_pin, a_marked, a_queue, a_val, a_valType, a_bound) (nI tt, nI rl, nI rt, ph, nI cc, nI nc, nI rc, nI hlc, lr, ro, a_ctorType, a_ctorFirst, a_ctorSecond, a_nodeKind, a_nodeArg, a_nodePos, a_nodeRow, b_nUp, a_rowFirst, b_rowSize, a_guardKind, a_guardA, a_guardB, b_holePos, b_holeType, b_holeUp, b_head, b_headType, b_binds, b_look, b_lookType, b_bound, b_hit, b_part)) (nI tt, nI rl, nI rt, ph, nI cc, nI nc, nI rc, nI hlc, lr, ro, a_ctorType, a_ctorFirst, a_ctorSecond, a_nodeKind, a_nodeArg, a_nodePos, a_nodeRow, b_nUp, a_rowFirst, b_rowSize, a_guardKind, a_guardA, a_guardB, b_holePos, b_holeType, b_holeUp, b_head, b_headType, b_binds, b_look, b_lookType, b_bound, b_hit, b_part) v1) (nI tt, nI rl, nI rt, ph, nI cc, nI rc, ro, nI nc, nI hlc, nI clc, nI sc, solM, livM, misF, nI qt, lr, a_ctorType, a_ctorFirst, a_ctorSecond, a_typeSize, a_typeCtors, a_rowFirst, a_rowSize, a_guardKind, a_guardA, a_guardB, a_clauseFirst, a_nodeKind, a_nodeArg, a_nodePos, a_nodeRow, a_altOf, a_altSide, a_nodeNew, a_after, a_holePos, a_holeType, a_holeOwner, a_holeSide, a_clauseRow, a_clauseNodes, a_clauseTests, a_testHead, a_clauseBind, a_litCount, a_lits, a_freshInt, a_stateMask, a_stateOpen, a_statePos, a_stateNext, a_child, a_bucketHead, a_pin, a_marked, a_queue, a_val, a_valType, a_bound) v1 := by
  have R : i_Rel (k + 4) (nI tt, nI rl, nI rt, ph, nI cc, nI rc, ro, nI nc, nI hlc, nI clc, nI sc, solM, livM, misF, nI qt, lr, a_ctorType, a_ctorFirst, a_ctorSecond, a_typeSize, a_typeCtors, a_rowFirst, a_rowSize, a_guardKind, a_guardA, a_guardB, a_clauseFirst, a_nodeKind, a_nodeArg, a_nodePos, a_nodeRow, a_altOf, a_altSide, a_nodeNew, a_after, a_holePos, a_holeType, a_holeOwner, a_holeSide, a_clauseRow, a_clauseNodes, a_clauseTests, a_testHead, a_clauseBind, a_litCount, a_lits, a_freshInt, a_stateMask, a_stateOpen, a_statePos, a_stateNext, a_child, a_bucketHead, a_pin, a_marked, a_queue, a_val, a_valType, a_bound) (nI tt, nI rl, nI rt, ph, nI cc, nI nc, nI rc, nI hlc, lr, ro, a_ctorType, a_ctorFirst, a_ctorSecond, a_nodeKind, a_nodeArg, a_nodePos, a_nodeRow, b_nUp, a_rowFirst, b_rowSize, a_guardKind, a_guardA, a_guardB, b_holePos, b_holeType, b_holeUp, b_head, b_headType, b_binds, b_look, b_lookType, b_bound, b_hit, b_part) := zz_in hA
  obtain ⟨fr, sz, cf, hT, hN, hO, hV, hB, hG, h0, h1⟩ := hA
  by_cases c0 : v1 < 1
  · exact br_t c0 (br_t c0 ⟨rfl, R⟩)
  by_cases c7 : v1 ≤ 7
  · have n0 : ¬ v1 < 0 := fun z => c0 (Int32.lt_trans z (by decide))
    obtain ⟨p, hp, rfl⟩ := nI_of2 (M := 7) (n := 7) (by decide) n0 c7
    have p1 : 1 ≤ p := by
      rcases Nat.eq_zero_or_pos p with z | z
      · subst z; exact absurd (by decide) c0
      · exact z
    have e : (nI p).toNatClampNeg = p := nI_clamp (by omega)
    have w : vp_in (nI p) 8 := vp_in_nI (by omega) (by omega)
    refine br_f c0 (br_t c7 ⟨w, br_f c0 (br_t c7 ⟨w, ?_, R⟩)⟩)
    rw [e]; exact (hV.1 p p1 hp).1
  · exact br_f c0 (br_f c7 (br_f c0 (br_f c7 ⟨rfl, R⟩)))
theorem vc_binding (hA : rl_All tt rl rt cc ph a_ctorType a_ctorFirst a_ctorSecond a_typeSize a_typeCtors rc nc clc a_nodeKind a_nodeArg a_nodePos a_nodeRow b_nUp a_altOf a_altSide a_nodeNew a_rowFirst a_rowSize b_rowSize a_guardKind a_guardA a_guardB a_clauseFirst a_clauseRow a_clauseNodes a_clauseTests a_testHead a_clauseBind hlc ro a_holePos a_holeType a_holeOwner a_holeSide b_holePos b_holeType b_holeUp a_valType a_val b_headType b_head sc misF solM livM a_litCount a_lits a_freshInt a_stateMask a_stateOpen a_statePos a_child a_bound b_binds) (v1 : Int32) : wpX_binding (fun r => wpY_binding (fun r' => r' = r ∧ i_Rel (k + 4) (nI tt, nI rl, nI rt, ph, nI cc, nI rc, ro, nI nc, nI hlc, nI clc, nI sc, solM, livM, misF, nI qt, lr, a_ctorType, a_ctorFirst, a_ctorSecond, a_typeSize, a_typeCtors, a_rowFirst, a_rowSize, a_guardKind, a_guardA, a_guardB, a_clauseFirst, a_nodeKind, a_nodeArg, a_nodePos, a_nodeRow, a_altOf, a_altSide, a_nodeNew, a_after, a_holePos, a_holeType, a_holeOwner, a_holeSide, a_clauseRow, a_clauseNodes, a_clauseTests, a_testHead, a_clauseBind, a_litCount, a_lits, a_freshInt, a_stateMask, a_stateOpen, a_statePos, a_stateNext, a_child, a_bucketHead, a_pin, a_marked, a_queue, a_val, a_valType, a_bound) (nI tt, nI rl, nI rt, ph, nI cc, nI nc, nI rc, nI hlc, lr, ro, a_ctorType, a_ctorFirst, a_ctorSecond, a_nodeKind, a_nodeArg, a_nodePos, a_nodeRow, b_nUp, a_rowFirst, b_rowSize, a_guardKind, a_guardA, a_guardB, b_holePos, b_holeType, b_holeUp, b_head, b_headType, b_binds, b_look, b_lookType, b_bound, b_hit, b_part)) (nI tt, nI rl, nI rt, ph, nI cc, nI nc, nI rc, nI hlc, lr, ro, a_ctorType, a_ctorFirst, a_ctorSecond, a_nodeKind, a_nodeArg, a_nodePos, a_nodeRow, b_nUp, a_rowFirst, b_rowSize, a_guardKind, a_guardA, a_guardB, b_holePos, b_holeType, b_holeUp, b_head, b_headType, b_binds, b_look, b_lookType, b_bound, b_hit, b_part) v1) (nI tt, nI rl, nI rt, ph, nI cc, nI rc, ro, nI nc, nI hlc, nI clc, nI sc, solM, livM, misF, nI qt, lr, a_ctorType, a_ctorFirst, a_ctorSecond, a_typeSize, a_typeCtors, a_rowFirst, a_rowSize, a_guardKind, a_guardA, a_guardB, a_clauseFirst, a_nodeKind, a_nodeArg, a_nodePos, a_nodeRow, a_altOf, a_altSide, a_nodeNew, a_after, a_holePos, a_holeType, a_holeOwner, a_holeSide, a_clauseRow, a_clauseNodes, a_clauseTests, a_testHead, a_clauseBind, a_litCount, a_lits, a_freshInt, a_stateMask, a_stateOpen, a_statePos, a_stateNext, a_child, a_bucketHead, a_pin, a_marked, a_queue, a_val, a_valType, a_bound) v1 := by
  have R : i_Rel (k + 4) (nI tt, nI rl, nI rt, ph, nI cc, nI rc, ro, nI nc, nI hlc, nI clc, nI sc, solM, livM, misF, nI qt, lr, a_ctorType, a_ctorFirst, a_ctorSecond, a_typeSize, a_typeCtors, a_rowFirst, a_rowSize, a_guardKind, a_guardA, a_guardB, a_clauseFirst, a_nodeKind, a_nodeArg, a_nodePos, a_nodeRow, a_altOf, a_altSide, a_nodeNew, a_after, a_holePos, a_holeType, a_holeOwner, a_holeSide, a_clauseRow, a_clauseNodes, a_clauseTests, a_testHead, a_clauseBind, a_litCount, a_lits, a_freshInt, a_stateMask, a_stateOpen, a_statePos, a_stateNext, a_child, a_bucketHead, a_pin, a_marked, a_queue, a_val, a_valType, a_bound) (nI tt, nI rl, nI rt, ph, nI cc, nI nc, nI rc, nI hlc, lr, ro, a_ctorType, a_ctorFirst, a_ctorSecond, a_nodeKind, a_nodeArg, a_nodePos, a_nodeRow, b_nUp, a_rowFirst, b_rowSize, a_guardKind, a_guardA, a_guardB, b_holePos, b_holeType, b_holeUp, b_head, b_headType, b_binds, b_look, b_lookType, b_bound, b_hit, b_part) := zz_in hA
  obtain ⟨fr, sz, cf, hT, hN, hO, hV, hB, hG, h0, h1⟩ := hA
  by_cases c0 : v1 < 0
  · exact br_t c0 (br_t c0 ⟨rfl, R⟩)
  by_cases c4 : v1 < 4
  · obtain ⟨p, hp, rfl⟩ := nI_of c0
    have p4 : p < 4 := (nI_ltI (a := p) (b := 4) hp (by omega)).mp c4
    have e : (nI p).toNatClampNeg = p := nI_clamp (by omega)
    have w : vp_in (nI p) 4 := vp_in_nI p4 (by omega)
    refine br_f c0 (br_t c4 ⟨w, br_f c0 (br_t c4 ⟨w, ?_, R⟩)⟩)
    rw [e]; exact (hB p p4).symm
  · exact br_f c0 (br_f c4 (br_f c0 (br_f c4 ⟨rfl, R⟩)))
theorem xw_isNode {post : Int32 → Prop} {x : Int32} (h0 : (x < 0 ∨ nI nc ≤ x) → post 0) (h1 : ¬ x < 0 → ¬ nI nc ≤ x → post 1) : wpX_isNode post (nI tt, nI rl, nI rt, ph, nI cc, nI rc, ro, nI nc, nI hlc, nI clc, nI sc, solM, livM, misF, nI qt, lr, a_ctorType, a_ctorFirst, a_ctorSecond, a_typeSize, a_typeCtors, a_rowFirst, a_rowSize, a_guardKind, a_guardA, a_guardB, a_clauseFirst, a_nodeKind, a_nodeArg, a_nodePos, a_nodeRow, a_altOf, a_altSide, a_nodeNew, a_after, a_holePos, a_holeType, a_holeOwner, a_holeSide, a_clauseRow, a_clauseNodes, a_clauseTests, a_testHead, a_clauseBind, a_litCount, a_lits, a_freshInt, a_stateMask, a_stateOpen, a_statePos, a_stateNext, a_child, a_bucketHead, a_pin, a_marked, a_queue, a_val, a_valType, a_bound) x :=
  br_c (fun z => h0 (Or.inl z)) (fun z => br_c (fun y => h0 (Or.inr y)) (fun y => h1 z y))
theorem xw_isRow {post : Int32 → Prop} {x : Int32} (h0 : (x < 0 ∨ nI rc ≤ x) → post 0) (h1 : ¬ x < 0 → ¬ nI rc ≤ x → post 1) : wpX_isRow post (nI tt, nI rl, nI rt, ph, nI cc, nI rc, ro, nI nc, nI hlc, nI clc, nI sc, solM, livM, misF, nI qt, lr, a_ctorType, a_ctorFirst, a_ctorSecond, a_typeSize, a_typeCtors, a_rowFirst, a_rowSize, a_guardKind, a_guardA, a_guardB, a_clauseFirst, a_nodeKind, a_nodeArg, a_nodePos, a_nodeRow, a_altOf, a_altSide, a_nodeNew, a_after, a_holePos, a_holeType, a_holeOwner, a_holeSide, a_clauseRow, a_clauseNodes, a_clauseTests, a_testHead, a_clauseBind, a_litCount, a_lits, a_freshInt, a_stateMask, a_stateOpen, a_statePos, a_stateNext, a_child, a_bucketHead, a_pin, a_marked, a_queue, a_val, a_valType, a_bound) x :=
  br_c (fun z => h0 (Or.inl z)) (fun z => br_c (fun y => h0 (Or.inr y)) (fun y => h1 z y))
theorem rl_ix {x : Int32} {n : Nat} (h0 : ¬ x < 0) (h1 : ¬ nI n ≤ x) : ∃ j, j < n ∧ x = nI j := by
  obtain ⟨j, j1, rfl⟩ := nI_of h0
  refine ⟨j, ?_, rfl⟩
  rcases Nat.lt_or_ge j n with z | z
  · exact z
  · exact absurd (nI_le z j1) h1
theorem vc_nodeInfo (hA : rl_All tt rl rt cc ph a_ctorType a_ctorFirst a_ctorSecond a_typeSize a_typeCtors rc nc clc a_nodeKind a_nodeArg a_nodePos a_nodeRow b_nUp a_altOf a_altSide a_nodeNew a_rowFirst a_rowSize b_rowSize a_guardKind a_guardA a_guardB a_clauseFirst a_clauseRow a_clauseNodes a_clauseTests a_testHead a_clauseBind hlc ro a_holePos a_holeType a_holeOwner a_holeSide b_holePos b_holeType b_holeUp a_valType a_val b_headType b_head sc misF solM livM a_litCount a_lits a_freshInt a_stateMask a_stateOpen a_statePos a_child a_bound b_binds) (v1 v2 : Int32) : wpX_nodeInfo (fun r => wpY_nodeInfo (fun r' => r' = r ∧ i_Rel (k + 4) (nI tt, nI rl, nI rt, ph, nI cc, nI rc, ro, nI nc, nI hlc, nI clc, nI sc, solM, livM, misF, nI qt, lr, a_ctorType, a_ctorFirst, a_ctorSecond, a_typeSize, a_typeCtors, a_rowFirst, a_rowSize, a_guardKind, a_guardA, a_guardB, a_clauseFirst, a_nodeKind, a_nodeArg, a_nodePos, a_nodeRow, a_altOf, a_altSide, a_nodeNew, a_after, a_holePos, a_holeType, a_holeOwner, a_holeSide, a_clauseRow, a_clauseNodes, a_clauseTests, a_testHead, a_clauseBind, a_litCount, a_lits, a_freshInt, a_stateMask, a_stateOpen, a_statePos, a_stateNext, a_child, a_bucketHead, a_pin, a_marked, a_queue, a_val, a_valType, a_bound) (nI tt, nI rl, nI rt, ph, nI cc, nI nc, nI rc, nI hlc, lr, ro, a_ctorType, a_ctorFirst, a_ctorSecond, a_nodeKind, a_nodeArg, a_nodePos, a_nodeRow, b_nUp, a_rowFirst, b_rowSize, a_guardKind, a_guardA, a_guardB, b_holePos, b_holeType, b_holeUp, b_head, b_headType, b_binds, b_look, b_lookType, b_bound, b_hit, b_part)) (nI tt, nI rl, nI rt, ph, nI cc, nI nc, nI rc, nI hlc, lr, ro, a_ctorType, a_ctorFirst, a_ctorSecond, a_nodeKind, a_nodeArg, a_nodePos, a_nodeRow, b_nUp, a_rowFirst, b_rowSize, a_guardKind, a_guardA, a_guardB, b_holePos, b_holeType, b_holeUp, b_head, b_headType, b_binds, b_look, b_lookType, b_bound, b_hit, b_part) v1 v2) (nI tt, nI rl, nI rt, ph, nI cc, nI rc, ro, nI nc, nI hlc, nI clc, nI sc, solM, livM, misF, nI qt, lr, a_ctorType, a_ctorFirst, a_ctorSecond, a_typeSize, a_typeCtors, a_rowFirst, a_rowSize, a_guardKind, a_guardA, a_guardB, a_clauseFirst, a_nodeKind, a_nodeArg, a_nodePos, a_nodeRow, a_altOf, a_altSide, a_nodeNew, a_after, a_holePos, a_holeType, a_holeOwner, a_holeSide, a_clauseRow, a_clauseNodes, a_clauseTests, a_testHead, a_clauseBind, a_litCount, a_lits, a_freshInt, a_stateMask, a_stateOpen, a_statePos, a_stateNext, a_child, a_bucketHead, a_pin, a_marked, a_queue, a_val, a_valType, a_bound) v1 v2 := by
  have R : i_Rel (k + 4) (nI tt, nI rl, nI rt, ph, nI cc, nI rc, ro, nI nc, nI hlc, nI clc, nI sc, solM, livM, misF, nI qt, lr, a_ctorType, a_ctorFirst, a_ctorSecond, a_typeSize, a_typeCtors, a_rowFirst, a_rowSize, a_guardKind, a_guardA, a_guardB, a_clauseFirst, a_nodeKind, a_nodeArg, a_nodePos, a_nodeRow, a_altOf, a_altSide, a_nodeNew, a_after, a_holePos, a_holeType, a_holeOwner, a_holeSide, a_clauseRow, a_clauseNodes, a_clauseTests, a_testHead, a_clauseBind, a_litCount, a_lits, a_freshInt, a_stateMask, a_stateOpen, a_statePos, a_stateNext, a_child, a_bucketHead, a_pin, a_marked, a_queue, a_val, a_valType, a_bound) (nI tt, nI rl, nI rt, ph, nI cc, nI nc, nI rc, nI hlc, lr, ro, a_ctorType, a_ctorFirst, a_ctorSecond, a_nodeKind, a_nodeArg, a_nodePos, a_nodeRow, b_nUp, a_rowFirst, b_rowSize, a_guardKind, a_guardA, a_guardB, b_holePos, b_holeType, b_holeUp, b_head, b_headType, b_binds, b_look, b_lookType, b_bound, b_hit, b_part) := zz_in hA
  obtain ⟨fr, sz, cf, hT, hN, hO, hV, hB, hG, h0, h1⟩ := hA
  unfold wpX_nodeInfo
  dsimp only
  refine xw_isNode (fun z => br_t rfl ?_) (fun z0 z1 => br_f (by decide) ?_)
  · rcases z with z | z
    · exact br_t z ⟨rfl, R⟩
    · by_cases y : v1 < 0
      · exact br_t y ⟨rfl, R⟩
      · exact br_f y (br_t z ⟨rfl, R⟩)
  · obtain ⟨n, hn, rfl⟩ := rl_ix z0 z1
    have hnc := hN.2.1
    have w : vp_in (nI n) 48 := vp_in_nI (by omega) (by omega)
    by_cases c0 : v2 < 0
    · exact br_t c0 (br_f z0 (br_f z1 (br_t c0 ⟨rfl, R⟩)))
    by_cases c3 : 3 < v2
    · exact br_f c0 (br_t c3 (br_f z0 (br_f z1 (br_f c0 (br_f (Int32.not_le.mpr c3) ⟨rfl, R⟩)))))
    have c3' := Int32.not_lt.mp c3
    refine br_f c0 (br_f c3 (br_c (fun a => ⟨w, br_f z0 (br_f z1 (br_f c0 (br_t c3' (br_t a ⟨w, rfl, R⟩))))⟩) (fun a => br_c (fun b => ⟨w, br_f z0 (br_f z1 (br_f c0 (br_t c3' (br_f a (br_t b ⟨w, rfl, R⟩)))))⟩) (fun b => br_c (fun c => ⟨w, br_f z0 (br_f z1 (br_f c0 (br_t c3' (br_f a (br_f b (br_t c ⟨w, rfl, R⟩))))))⟩) (fun c => br_c (fun g => ⟨w, br_f z0 (br_f z1 (br_f c0 (br_t c3' (br_f a (br_f b (br_f c ⟨w, rfl, R⟩))))))⟩) (fun g => trivial))))))
theorem vc_rowInfo (hA : rl_All tt rl rt cc ph a_ctorType a_ctorFirst a_ctorSecond a_typeSize a_typeCtors rc nc clc a_nodeKind a_nodeArg a_nodePos a_nodeRow b_nUp a_altOf a_altSide a_nodeNew a_rowFirst a_rowSize b_rowSize a_guardKind a_guardA a_guardB a_clauseFirst a_clauseRow a_clauseNodes a_clauseTests a_testHead a_clauseBind hlc ro a_holePos a_holeType a_holeOwner a_holeSide b_holePos b_holeType b_holeUp a_valType a_val b_headType b_head sc misF solM livM a_litCount a_lits a_freshInt a_stateMask a_stateOpen a_statePos a_child a_bound b_binds) (v1 v2 : Int32) : wpX_rowInfo (fun r => wpY_rowInfo (fun r' => r' = r ∧ i_Rel (k + 4) (nI tt, nI rl, nI rt, ph, nI cc, nI rc, ro, nI nc, nI hlc, nI clc, nI sc, solM, livM, misF, nI qt, lr, a_ctorType, a_ctorFirst, a_ctorSecond, a_typeSize, a_typeCtors, a_rowFirst, a_rowSize, a_guardKind, a_guardA, a_guardB, a_clauseFirst, a_nodeKind, a_nodeArg, a_nodePos, a_nodeRow, a_altOf, a_altSide, a_nodeNew, a_after, a_holePos, a_holeType, a_holeOwner, a_holeSide, a_clauseRow, a_clauseNodes, a_clauseTests, a_testHead, a_clauseBind, a_litCount, a_lits, a_freshInt, a_stateMask, a_stateOpen, a_statePos, a_stateNext, a_child, a_bucketHead, a_pin, a_marked, a_queue, a_val, a_valType, a_bound) (nI tt, nI rl, nI rt, ph, nI cc, nI nc, nI rc, nI hlc, lr, ro, a_ctorType, a_ctorFirst, a_ctorSecond, a_nodeKind, a_nodeArg, a_nodePos, a_nodeRow, b_nUp, a_rowFirst, b_rowSize, a_guardKind, a_guardA, a_guardB, b_holePos, b_holeType, b_holeUp, b_head, b_headType, b_binds, b_look, b_lookType, b_bound, b_hit, b_part)) (nI tt, nI rl, nI rt, ph, nI cc, nI nc, nI rc, nI hlc, lr, ro, a_ctorType, a_ctorFirst, a_ctorSecond, a_nodeKind, a_nodeArg, a_nodePos, a_nodeRow, b_nUp, a_rowFirst, b_rowSize, a_guardKind, a_guardA, a_guardB, b_holePos, b_holeType, b_holeUp, b_head, b_headType, b_binds, b_look, b_lookType, b_bound, b_hit, b_part) v1 v2) (nI tt, nI rl, nI rt, ph, nI cc, nI rc, ro, nI nc, nI hlc, nI clc, nI sc, solM, livM, misF, nI qt, lr, a_ctorType, a_ctorFirst, a_ctorSecond, a_typeSize, a_typeCtors, a_rowFirst, a_rowSize, a_guardKind, a_guardA, a_guardB, a_clauseFirst, a_nodeKind, a_nodeArg, a_nodePos, a_nodeRow, a_altOf, a_altSide, a_nodeNew, a_after, a_holePos, a_holeType, a_holeOwner, a_holeSide, a_clauseRow, a_clauseNodes, a_clauseTests, a_testHead, a_clauseBind, a_litCount, a_lits, a_freshInt, a_stateMask, a_stateOpen, a_statePos, a_stateNext, a_child, a_bucketHead, a_pin, a_marked, a_queue, a_val, a_valType, a_bound) v1 v2 := by
  have R : i_Rel (k + 4) (nI tt, nI rl, nI rt, ph, nI cc, nI rc, ro, nI nc, nI hlc, nI clc, nI sc, solM, livM, misF, nI qt, lr, a_ctorType, a_ctorFirst, a_ctorSecond, a_typeSize, a_typeCtors, a_rowFirst, a_rowSize, a_guardKind, a_guardA, a_guardB, a_clauseFirst, a_nodeKind, a_nodeArg, a_nodePos, a_nodeRow, a_altOf, a_altSide, a_nodeNew, a_after, a_holePos, a_holeType, a_holeOwner, a_holeSide, a_clauseRow, a_clauseNodes, a_clauseTests, a_testHead, a_clauseBind, a_litCount, a_lits, a_freshInt, a_stateMask, a_stateOpen, a_statePos, a_stateNext, a_child, a_bucketHead, a_pin, a_marked, a_queue, a_val, a_valType, a_bound) (nI tt, nI rl, nI rt, ph, nI cc, nI nc, nI rc, nI hlc, lr, ro, a_ctorType, a_ctorFirst, a_ctorSecond, a_nodeKind, a_nodeArg, a_nodePos, a_nodeRow, b_nUp, a_rowFirst, b_rowSize, a_guardKind, a_guardA, a_guardB, b_holePos, b_holeType, b_holeUp, b_head, b_headType, b_binds, b_look, b_lookType, b_bound, b_hit, b_part) := zz_in hA
  obtain ⟨fr, sz, cf, hT, hN, hO, hV, hB, hG, h0, h1⟩ := hA
  unfold wpX_rowInfo
  dsimp only
  refine xw_isRow (fun z => br_t rfl ?_) (fun z0 z1 => br_f (by decide) ?_)
  · rcases z with z | z
    · exact br_t z ⟨rfl, R⟩
    · by_cases y : v1 < 0
      · exact br_t y ⟨rfl, R⟩
      · exact br_f y (br_t z ⟨rfl, R⟩)
  · obtain ⟨n, hn, rfl⟩ := rl_ix z0 z1
    have hrl := hN.1
    have hT1 := hT.1
    have w : vp_in (nI n) 8 := vp_in_nI (by omega) (by omega)
    have e : (nI n).toNatClampNeg = n := nI_clamp (by omega)
    obtain ⟨_, _, s1, s2, _⟩ := hN.2.2.2.2.1 n hn
    have es : b_rowSize (nI n).toNatClampNeg = a_rowSize (nI n).toNatClampNeg := by rw [e, s1, s2]
    by_cases c0 : v2 < 0
    · exact br_t c0 (br_f z0 (br_f z1 (br_t c0 ⟨rfl, R⟩)))
    by_cases c3 : 4 < v2
    · exact br_f c0 (br_t c3 (br_f z0 (br_f z1 (br_f c0 (br_f (Int32.not_le.mpr c3) ⟨rfl, R⟩)))))
    have c3' := Int32.not_lt.mp c3
    refine br_f c0 (br_f c3 (br_c (fun a => ⟨w, br_f z0 (br_f z1 (br_f c0 (br_t c3' (br_t a ⟨w, rfl, R⟩))))⟩) (fun a => br_c (fun b => ⟨w, br_f z0 (br_f z1 (br_f c0 (br_t c3' (br_f a (br_t b ⟨w, rfl, R⟩)))))⟩) (fun b => br_c (fun c => ⟨w, br_f z0 (br_f z1 (br_f c0 (br_t c3' (br_f a (br_f b (br_t c ⟨w, rfl, R⟩))))))⟩) (fun c => br_c (fun g => ⟨w, br_f z0 (br_f z1 (br_f c0 (br_t c3' (br_f a (br_f b (br_f c (br_t g ⟨w, rfl, R⟩)))))))⟩) (fun g => br_c (fun i => ⟨w, br_f z0 (br_f z1 (br_f c0 (br_t c3' (br_f a (br_f b (br_f c (br_f g ⟨w, es, R⟩)))))))⟩) (fun i => trivial)))))))
theorem vc_constructorInfo (hA : rl_All tt rl rt cc ph a_ctorType a_ctorFirst a_ctorSecond a_typeSize a_typeCtors rc nc clc a_nodeKind a_nodeArg a_nodePos a_nodeRow b_nUp a_altOf a_altSide a_nodeNew a_rowFirst a_rowSize b_rowSize a_guardKind a_guardA a_guardB a_clauseFirst a_clauseRow a_clauseNodes a_clauseTests a_testHead a_clauseBind hlc ro a_holePos a_holeType a_holeOwner a_holeSide b_holePos b_holeType b_holeUp a_valType a_val b_headType b_head sc misF solM livM a_litCount a_lits a_freshInt a_stateMask a_stateOpen a_statePos a_child a_bound b_binds) (v1 v2 : Int32) : wpX_constructorInfo (fun r => wpY_constructorInfo (fun r' => r' = r ∧ i_Rel (k + 4) (nI tt, nI rl, nI rt, ph, nI cc, nI rc, ro, nI nc, nI hlc, nI clc, nI sc, solM, livM, misF, nI qt, lr, a_ctorType, a_ctorFirst, a_ctorSecond, a_typeSize, a_typeCtors, a_rowFirst, a_rowSize, a_guardKind, a_guardA, a_guardB, a_clauseFirst, a_nodeKind, a_nodeArg, a_nodePos, a_nodeRow, a_altOf, a_altSide, a_nodeNew, a_after, a_holePos, a_holeType, a_holeOwner, a_holeSide, a_clauseRow, a_clauseNodes, a_clauseTests, a_testHead, a_clauseBind, a_litCount, a_lits, a_freshInt, a_stateMask, a_stateOpen, a_statePos, a_stateNext, a_child, a_bucketHead, a_pin, a_marked, a_queue, a_val, a_valType, a_bound) (nI tt, nI rl, nI rt, ph, nI cc, nI nc, nI rc, nI hlc, lr, ro, a_ctorType, a_ctorFirst, a_ctorSecond, a_nodeKind, a_nodeArg, a_nodePos, a_nodeRow, b_nUp, a_rowFirst, b_rowSize, a_guardKind, a_guardA, a_guardB, b_holePos, b_holeType, b_holeUp, b_head, b_headType, b_binds, b_look, b_lookType, b_bound, b_hit, b_part)) (nI tt, nI rl, nI rt, ph, nI cc, nI nc, nI rc, nI hlc, lr, ro, a_ctorType, a_ctorFirst, a_ctorSecond, a_nodeKind, a_nodeArg, a_nodePos, a_nodeRow, b_nUp, a_rowFirst, b_rowSize, a_guardKind, a_guardA, a_guardB, b_holePos, b_holeType, b_holeUp, b_head, b_headType, b_binds, b_look, b_lookType, b_bound, b_hit, b_part) v1 v2) (nI tt, nI rl, nI rt, ph, nI cc, nI rc, ro, nI nc, nI hlc, nI clc, nI sc, solM, livM, misF, nI qt, lr, a_ctorType, a_ctorFirst, a_ctorSecond, a_typeSize, a_typeCtors, a_rowFirst, a_rowSize, a_guardKind, a_guardA, a_guardB, a_clauseFirst, a_nodeKind, a_nodeArg, a_nodePos, a_nodeRow, a_altOf, a_altSide, a_nodeNew, a_after, a_holePos, a_holeType, a_holeOwner, a_holeSide, a_clauseRow, a_clauseNodes, a_clauseTests, a_testHead, a_clauseBind, a_litCount, a_lits, a_freshInt, a_stateMask, a_stateOpen, a_statePos, a_stateNext, a_child, a_bucketHead, a_pin, a_marked, a_queue, a_val, a_valType, a_bound) v1 v2 := by
  have R : i_Rel (k + 4) (nI tt, nI rl, nI rt, ph, nI cc, nI rc, ro, nI nc, nI hlc, nI clc, nI sc, solM, livM, misF, nI qt, lr, a_ctorType, a_ctorFirst, a_ctorSecond, a_typeSize, a_typeCtors, a_rowFirst, a_rowSize, a_guardKind, a_guardA, a_guardB, a_clauseFirst, a_nodeKind, a_nodeArg, a_nodePos, a_nodeRow, a_altOf, a_altSide, a_nodeNew, a_after, a_holePos, a_holeType, a_holeOwner, a_holeSide, a_clauseRow, a_clauseNodes, a_clauseTests, a_testHead, a_clauseBind, a_litCount, a_lits, a_freshInt, a_stateMask, a_stateOpen, a_statePos, a_stateNext, a_child, a_bucketHead, a_pin, a_marked, a_queue, a_val, a_valType, a_bound) (nI tt, nI rl, nI rt, ph, nI cc, nI nc, nI rc, nI hlc, lr, ro, a_ctorType, a_ctorFirst, a_ctorSecond, a_nodeKind, a_nodeArg, a_nodePos, a_nodeRow, b_nUp, a_rowFirst, b_rowSize, a_guardKind, a_guardA, a_guardB, b_holePos, b_holeType, b_holeUp, b_head, b_headType, b_binds, b_look, b_lookType, b_bound, b_hit, b_part) := zz_in hA
  obtain ⟨fr, sz, cf, hT, hN, hO, hV, hB, hG, h0, h1⟩ := hA
  unfold wpX_constructorInfo
  dsimp only
  refine xw_isCtor (fun z => br_t rfl ?_) (fun z0 z1 => br_f (by decide) ?_)
  · rcases z with z | z
    · exact br_t z ⟨rfl, R⟩
    · by_cases y : v1 < 0
      · exact br_t y ⟨rfl, R⟩
      · exact br_f y (br_t z ⟨rfl, R⟩)
  · obtain ⟨n, hn, rfl⟩ := rl_ix z0 z1
    have hT1 := hT.1
    have w : vp_in (nI n) 12 := vp_in_nI (by omega) (by omega)
    by_cases c0 : v2 < 0
    · exact br_t c0 (br_f z0 (br_f z1 (br_t c0 ⟨rfl, R⟩)))
    by_cases c3 : 2 < v2
    · exact br_f c0 (br_t c3 (br_f z0 (br_f z1 (br_f c0 (br_f (Int32.not_le.mpr c3) ⟨rfl, R⟩)))))
    have c3' := Int32.not_lt.mp c3
    refine br_f c0 (br_f c3 (br_c (fun a => ⟨w, br_f z0 (br_f z1 (br_f c0 (br_t c3' (br_t a ⟨w, rfl, R⟩))))⟩) (fun a => br_c (fun b => ⟨w, br_f z0 (br_f z1 (br_f c0 (br_t c3' (br_f a (br_t b ⟨w, rfl, R⟩)))))⟩) (fun b => br_c (fun c => ⟨w, br_f z0 (br_f z1 (br_f c0 (br_t c3' (br_f a (br_f b ⟨w, rfl, R⟩)))))⟩) (fun c => trivial)))))
end
end
section
theorem xt_cnt_c {cT cT' : Nat → Int32} {x : Int32} : ∀ n, (∀ c, c < n → cT' c = cT c) → xt_cnt cT' x n = xt_cnt cT x n := by
  intro n
  induction n with
  | zero => intro _; rfl
  | succ n ih => intro h; rw [xt_cnt, xt_cnt, ih (fun c hc => h c (by omega)), h n (by omega)]
theorem xt_sum {cT : Nat → Int32} : ∀ n, (∀ c, c < n → ∃ k, 1 ≤ k ∧ k ≤ 4 ∧ cT c = nI k) → n = xt_cnt cT (nI 1) n + xt_cnt cT (nI 2) n + xt_cnt cT (nI 3) n + xt_cnt cT (nI 4) n := by
  intro n
  induction n with
  | zero => intro _; rfl
  | succ n ih =>
    intro h
    have h1 := ih (fun c hc => h c (by omega))
    obtain ⟨k, k1, k4, ek⟩ := h n (by omega)
    rw [xt_cnt, xt_cnt, xt_cnt, xt_cnt, ek]
    have hk : k = 1 ∨ k = 2 ∨ k = 3 ∨ k = 4 := by omega
    have ne : ∀ a b : Nat, a < 5 → b < 5 → a ≠ b → nI a ≠ nI b := fun a b x y z w => z ((nI_eq (by omega) (by omega)).mp w)
    rcases hk with rfl | rfl | rfl | rfl
    · rw [if_pos rfl, if_neg (ne 1 2 (by omega) (by omega) (by omega)), if_neg (ne 1 3 (by omega) (by omega) (by omega)), if_neg (ne 1 4 (by omega) (by omega) (by omega))]; omega
    · rw [if_neg (ne 2 1 (by omega) (by omega) (by omega)), if_pos rfl, if_neg (ne 2 3 (by omega) (by omega) (by omega)), if_neg (ne 2 4 (by omega) (by omega) (by omega))]; omega
    · rw [if_neg (ne 3 1 (by omega) (by omega) (by omega)), if_neg (ne 3 2 (by omega) (by omega) (by omega)), if_pos rfl, if_neg (ne 3 4 (by omega) (by omega) (by omega))]; omega
    · rw [if_neg (ne 4 1 (by omega) (by omega) (by omega)), if_neg (ne 4 2 (by omega) (by omega) (by omega)), if_neg (ne 4 3 (by omega) (by omega) (by omega)), if_pos rfl]; omega
section
variable {tt rl rt cc rc nc hlc clc sc qt : Nat} {ph ro misF lr : Int32} {solM livM : Int64} {a_ctorType a_ctorFirst a_ctorSecond a_typeSize a_typeCtors a_rowFirst a_rowSize a_guardKind a_guardA a_guardB a_clauseFirst a_nodeKind a_nodeArg a_nodePos a_nodeRow a_altOf a_altSide a_nodeNew a_after a_holePos a_holeType a_holeOwner a_holeSide a_clauseRow a_clauseTests a_testHead a_clauseBind a_litCount a_lits a_freshInt a_stateOpen a_statePos a_stateNext a_child a_bucketHead a_pin a_marked a_queue a_val a_valType a_bound : Nat → Int32} {a_clauseNodes a_stateMask : Nat → Int64} {b_nUp b_rowSize b_holePos b_holeType b_holeUp b_head b_headType b_binds b_look b_lookType b_bound b_hit b_part : Nat → Int32}
variable {k : Nat} {fr sz cf : Nat → Nat}
theorem yw_ctorsOf {post : Int32 → Prop} {x : Int32} (hcc : cc ≤ 12) (h : post (nI (xt_cnt a_ctorType x cc))) : wpY_ctorsOf post (nI tt, nI rl, nI rt, ph, nI cc, nI nc, nI rc, nI hlc, lr, ro, a_ctorType, a_ctorFirst, a_ctorSecond, a_nodeKind, a_nodeArg, a_nodePos, a_nodeRow, b_nUp, a_rowFirst, b_rowSize, a_guardKind, a_guardA, a_guardB, b_holePos, b_holeType, b_holeUp, b_head, b_headType, b_binds, b_look, b_lookType, b_bound, b_hit, b_part) x := by
  have loop : ∀ d i, i + d = cc → wY_ctorsOf_4 post x (nI tt) (nI rl) (nI rt) ph (nI cc) (nI nc) (nI rc) (nI hlc) lr ro a_ctorType a_ctorFirst a_ctorSecond a_nodeKind a_nodeArg a_nodePos a_nodeRow b_nUp a_rowFirst b_rowSize a_guardKind a_guardA a_guardB b_holePos b_holeType b_holeUp b_head b_headType b_binds b_look b_lookType b_bound b_hit b_part (d + 1) (nI (xt_cnt a_ctorType x i)) (nI i) := by
    intro d
    induction d with
    | zero =>
      intro i hi
      have : i = cc := by omega
      subst this
      exact br_t (nI_le (by omega) (by omega)) h
    | succ d ih =>
      intro i hi
      refine br_f (nI_ge (by omega) (by omega)) ⟨vp_in_nI (by omega) (by omega), ?_⟩
      rw [nI_clamp (by omega : i < 2 ^ 31)]
      have := ih (i + 1) (by omega)
      rw [xt_cnt] at this
      refine br_c (fun z => nm_r (e' := nI (xt_cnt a_ctorType x i + 1)) (nI_1 _) (nm_r (nI_1 i) ?_)) (fun z => nm_r (nI_1 i) ?_)
      · rw [if_pos z] at this; exact this
      · rw [if_neg z] at this; exact this
  exact ⟨cc + 1, loop cc 0 (by omega)⟩
theorem rl_N0 (h1 : rc = 0) (h2 : nc = 0) (h3 : fr 0 = 0) (h4 : cf 0 = 0) (h5 : clc = 0) : rl_N rt cc rl rc nc clc a_ctorType a_ctorFirst a_ctorSecond a_nodeKind a_nodeArg a_nodePos a_nodeRow b_nUp a_altOf a_altSide a_nodeNew a_rowFirst a_rowSize b_rowSize a_guardKind a_guardA a_guardB a_clauseFirst a_clauseRow a_clauseNodes a_clauseTests a_testHead a_clauseBind fr sz cf := by
  subst h1 h2 h5
  exact ⟨by omega, by omega, h3, h4, fun r hr => by omega, by omega, h4.symm, fun n hn => by omega, fun p p1 p7 => by rw [xl_cnt]; unfold xl_lim; split <;> omega, fun n hn => by omega⟩
theorem rl_Tph {ph' : Int32} (h : rl_T tt rl rt cc ph a_ctorType a_ctorFirst a_ctorSecond a_typeSize a_typeCtors) (hp : ph ≠ 0) (hp' : ph' = 1 ∨ ph' = 2) : rl_T tt rl rt cc ph' a_ctorType a_ctorFirst a_ctorSecond a_typeSize a_typeCtors :=
  ⟨h.1, Or.inr hp', h.2.2.1, h.2.2.2.1, h.2.2.2.2.1, h.2.2.2.2.2.1, h.2.2.2.2.2.2.1, fun _ => h.2.2.2.2.2.2.2 hp⟩
theorem rl_Vph {ph' : Int32} (h : rl_V rt cc ph a_ctorType a_ctorFirst a_ctorSecond a_valType a_val b_headType b_head) (hp' : ph' ≠ 0) : rl_V rt cc ph' a_ctorType a_ctorFirst a_ctorSecond a_valType a_val b_headType b_head := ⟨h.1, h.2.1, fun z => absurd z hp'⟩
theorem xw_isField {post : Int32 → Prop} {x : Int32} (h0 : (x < -1 ∨ nI tt < x) → post 0) (h1 : ¬ x < -1 → ¬ nI tt < x → post 1) : wpX_isFieldType post (nI tt, nI rl, nI rt, ph, nI cc, nI rc, ro, nI nc, nI hlc, nI clc, nI sc, solM, livM, misF, nI qt, lr, a_ctorType, a_ctorFirst, a_ctorSecond, a_typeSize, a_typeCtors, a_rowFirst, a_rowSize, a_guardKind, a_guardA, a_guardB, a_clauseFirst, a_nodeKind, a_nodeArg, a_nodePos, a_nodeRow, a_altOf, a_altSide, a_nodeNew, a_after, a_holePos, a_holeType, a_holeOwner, a_holeSide, a_clauseRow, a_clauseNodes, a_clauseTests, a_testHead, a_clauseBind, a_litCount, a_lits, a_freshInt, a_stateMask, a_stateOpen, a_statePos, a_stateNext, a_child, a_bucketHead, a_pin, a_marked, a_queue, a_val, a_valType, a_bound) x :=
  br_c (fun z => h0 (Or.inl z)) (fun z => br_c (fun y => h0 (Or.inr y)) (fun y => h1 z y))
theorem rl_fld {x : Int32} (ht : tt ≤ 4) (h0 : ¬ x < -1) (h1 : ¬ nI tt < x) : x = -1 ∨ ∃ j, j ≤ tt ∧ x = nI j := by
  by_cases z : x < 0
  · left
    have a := Int32.lt_iff_toInt_lt.mp z
    have b : ¬ x.toInt < -1 := fun w => h0 (Int32.lt_iff_toInt_lt.mpr (by rw [show (-1 : Int32).toInt = -1 from by decide]; exact w))
    rw [show (0 : Int32).toInt = 0 from by decide] at a
    apply Int32.toInt_inj.mp
    rw [show (-1 : Int32).toInt = -1 from by decide]
    omega
  · right
    obtain ⟨j, j1, rfl⟩ := nI_of z
    refine ⟨j, ?_, rfl⟩
    rcases Nat.lt_or_ge tt j with w | w
    · exact absurd (nI_lt w j1) h1
    · exact w
theorem rl_addT {ty : Nat} {f1 f2 : Int32} (hT : rl_T tt rl rt cc ph a_ctorType a_ctorFirst a_ctorSecond a_typeSize a_typeCtors) (hph : ph = 0) (t1 : 1 ≤ ty) (tt1 : ty ≤ tt) (hs : xt_cnt a_ctorType (nI ty) cc < 3) (hf1 : f1 = -1 ∨ ∃ j, j ≤ tt ∧ f1 = nI j) (hf2 : f2 = -1 ∨ ∃ j, j ≤ tt ∧ f2 = nI j) (hf12 : f1 = -1 → f2 = -1) :
    cc < 12 ∧ rl_T tt rl rt (cc + 1) ph (upd a_ctorType cc (nI ty)) (upd a_ctorFirst cc f1) (upd a_ctorSecond cc f2) (upd a_typeSize ty (nI (xt_cnt a_ctorType (nI ty) cc + 1))) (upd a_typeCtors (ty * 3 + xt_cnt a_ctorType (nI ty) cc) (nI cc)) := by
  obtain ⟨h1, h2, h3, h4, h5, h6, h7, h8⟩ := hT
  have hsum := xt_sum (cT := a_ctorType) cc (fun c hc => by obtain ⟨k, a, b, e⟩ := h3 c hc; exact ⟨k, a, by omega, e⟩)
  have hcc : cc < 12 := by
    have a1 := (h6 1 (by omega) (by omega)).2
    have a2 := (h6 2 (by omega) (by omega)).2
    have a3 := (h6 3 (by omega) (by omega)).2
    have a4 := (h6 4 (by omega) (by omega)).2
    have : ty = 1 ∨ ty = 2 ∨ ty = 3 ∨ ty = 4 := by omega
    rcases this with rfl | rfl | rfl | rfl <;> omega
  have cn : ∀ x, xt_cnt (upd a_ctorType cc (nI ty)) x (cc + 1) = xt_cnt a_ctorType x cc + (if nI ty = x then 1 else 0) := by
    intro x
    rw [xt_cnt, pk_us, xt_cnt_c cc (fun c hc => pk_un (by omega))]
  refine ⟨hcc, ⟨⟨h1.1, h1.2.1, h1.2.2.1, h1.2.2.2.1, h1.2.2.2.2.1, by omega⟩, h2, fun c hc => ?_, fun c hc => ?_, fun c hc => ?_, fun k k1 k4 => ?_, fun k k1 k4 => ?_, fun z => absurd hph z⟩⟩
  · by_cases q : c = cc
    · subst q; rw [pk_us]; exact ⟨ty, t1, tt1, rfl⟩
    · rw [pk_un q]; exact h3 c (by omega)
  · by_cases q : c = cc
    · subst q; rw [pk_us, pk_us]; exact ⟨hf1, hf2⟩
    · rw [pk_un q, pk_un q]; exact h4 c (by omega)
  · by_cases q : c = cc
    · subst q; rw [pk_us, pk_us]; exact hf12
    · rw [pk_un q, pk_un q]; exact h5 c (by omega)
  · rw [cn]
    by_cases q : k = ty
    · subst q; rw [pk_us, if_pos rfl]; exact ⟨rfl, by omega⟩
    · rw [pk_un q, if_neg (fun z => q ((nI_eq (by omega) (by omega)).mp z).symm)]; exact h6 k k1 k4
  · obtain ⟨s, s3, es, q1, q2, q3⟩ := h7 k k1 k4
    have es' : s = xt_cnt a_ctorType (nI k) cc := by
      rw [(h6 k k1 k4).1] at es
      have := (h6 k k1 k4).2
      exact ((nI_eq (by omega) (by omega)).mp es).symm
    by_cases q : k = ty
    · subst q
      rw [← es'] at hs ⊢
      refine ⟨s + 1, by omega, pk_us, fun i hi => ?_, fun i j ij hj => ?_, fun c hc e => ?_⟩
      · by_cases z : i = s
        · subst z; exact ⟨cc, by omega, pk_us, pk_us⟩
        · obtain ⟨c, c1, c2, c3⟩ := q1 i (by omega)
          exact ⟨c, by omega, by rw [pk_un (by omega)]; exact c2, by rw [pk_un (by omega)]; exact c3⟩
      · obtain ⟨c, c1, c2, c3⟩ := q1 i (by omega)
        rw [pk_un (by omega : k * 3 + i ≠ k * 3 + s)]
        by_cases z : j = s
        · subst z; rw [pk_us, c2]; exact nI_lt (by omega) (by omega)
        · rw [pk_un (by omega)]; exact q2 i j ij (by omega)
      · by_cases z : c = cc
        · subst z; exact ⟨s, by omega, pk_us⟩
        · rw [pk_un z] at e
          obtain ⟨i, i1, i2⟩ := q3 c (by omega) e
          exact ⟨i, by omega, by rw [pk_un (by omega)]; exact i2⟩
    · have hs3 : xt_cnt a_ctorType (nI ty) cc < 3 := hs
      refine ⟨s, s3, by rw [pk_un q]; exact es, fun i hi => ?_, fun i j ij hj => ?_, fun c hc e => ?_⟩
      · obtain ⟨c, c1, c2, c3⟩ := q1 i hi
        exact ⟨c, by omega, by rw [pk_un (by omega)]; exact c2, by rw [pk_un (by omega)]; exact c3⟩
      · rw [pk_un (by omega), pk_un (by omega)]; exact q2 i j ij hj
      · by_cases z : c = cc
        · subst z
          rw [pk_us] at e
          exact absurd ((nI_eq (by omega) (by omega)).mp e).symm q
        · rw [pk_un z] at e
          obtain ⟨i, i1, i2⟩ := q3 c (by omega) e
          exact ⟨i, i1, by rw [pk_un (by omega)]; exact i2⟩
theorem vc_addConstructor (hA : rl_All tt rl rt cc ph a_ctorType a_ctorFirst a_ctorSecond a_typeSize a_typeCtors rc nc clc a_nodeKind a_nodeArg a_nodePos a_nodeRow b_nUp a_altOf a_altSide a_nodeNew a_rowFirst a_rowSize b_rowSize a_guardKind a_guardA a_guardB a_clauseFirst a_clauseRow a_clauseNodes a_clauseTests a_testHead a_clauseBind hlc ro a_holePos a_holeType a_holeOwner a_holeSide b_holePos b_holeType b_holeUp a_valType a_val b_headType b_head sc misF solM livM a_litCount a_lits a_freshInt a_stateMask a_stateOpen a_statePos a_child a_bound b_binds) (v1 v2 v3 : Int32) : wpX_addConstructor (fun r u' => wpY_addConstructor (fun r' v' => r' = r ∧ i_Rel (k + 4) u' v') (nI tt, nI rl, nI rt, ph, nI cc, nI nc, nI rc, nI hlc, lr, ro, a_ctorType, a_ctorFirst, a_ctorSecond, a_nodeKind, a_nodeArg, a_nodePos, a_nodeRow, b_nUp, a_rowFirst, b_rowSize, a_guardKind, a_guardA, a_guardB, b_holePos, b_holeType, b_holeUp, b_head, b_headType, b_binds, b_look, b_lookType, b_bound, b_hit, b_part) v1 v2 v3) (nI tt, nI rl, nI rt, ph, nI cc, nI rc, ro, nI nc, nI hlc, nI clc, nI sc, solM, livM, misF, nI qt, lr, a_ctorType, a_ctorFirst, a_ctorSecond, a_typeSize, a_typeCtors, a_rowFirst, a_rowSize, a_guardKind, a_guardA, a_guardB, a_clauseFirst, a_nodeKind, a_nodeArg, a_nodePos, a_nodeRow, a_altOf, a_altSide, a_nodeNew, a_after, a_holePos, a_holeType, a_holeOwner, a_holeSide, a_clauseRow, a_clauseNodes, a_clauseTests, a_testHead, a_clauseBind, a_litCount, a_lits, a_freshInt, a_stateMask, a_stateOpen, a_statePos, a_stateNext, a_child, a_bucketHead, a_pin, a_marked, a_queue, a_val, a_valType, a_bound) v1 v2 v3 := by
  have R : i_Rel (k + 4) (nI tt, nI rl, nI rt, ph, nI cc, nI rc, ro, nI nc, nI hlc, nI clc, nI sc, solM, livM, misF, nI qt, lr, a_ctorType, a_ctorFirst, a_ctorSecond, a_typeSize, a_typeCtors, a_rowFirst, a_rowSize, a_guardKind, a_guardA, a_guardB, a_clauseFirst, a_nodeKind, a_nodeArg, a_nodePos, a_nodeRow, a_altOf, a_altSide, a_nodeNew, a_after, a_holePos, a_holeType, a_holeOwner, a_holeSide, a_clauseRow, a_clauseNodes, a_clauseTests, a_testHead, a_clauseBind, a_litCount, a_lits, a_freshInt, a_stateMask, a_stateOpen, a_statePos, a_stateNext, a_child, a_bucketHead, a_pin, a_marked, a_queue, a_val, a_valType, a_bound) (nI tt, nI rl, nI rt, ph, nI cc, nI nc, nI rc, nI hlc, lr, ro, a_ctorType, a_ctorFirst, a_ctorSecond, a_nodeKind, a_nodeArg, a_nodePos, a_nodeRow, b_nUp, a_rowFirst, b_rowSize, a_guardKind, a_guardA, a_guardB, b_holePos, b_holeType, b_holeUp, b_head, b_headType, b_binds, b_look, b_lookType, b_bound, b_hit, b_part) := zz_in hA
  obtain ⟨fr, sz, cf, hT, hN, hO, hV, hB, hG, h0, h1⟩ := hA
  by_cases c0 : ¬ ph = 0
  · exact br_f c0 (br_f c0 ⟨rfl, R⟩)
  have c0 := Classical.not_not.mp c0
  by_cases c1 : v1 < 1
  · exact br_t c0 (br_t c1 (br_t c0 (br_t c1 ⟨rfl, R⟩)))
  by_cases c2 : ¬ v1 ≤ nI tt
  · exact br_t c0 (br_f c1 (br_f c2 (br_t c0 (br_f c1 (br_t (Int32.not_le.mp c2) ⟨rfl, R⟩)))))
  have c2 := Classical.not_not.mp c2
  have c2' : ¬ nI tt < v1 := Int32.not_lt.mpr c2
  have yfail2 : (v2 < -1 ∨ nI tt < v2) → wpY_addConstructor (fun r' v' => r' = -3 ∧ i_Rel (k + 4) (nI tt, nI rl, nI rt, ph, nI cc, nI rc, ro, nI nc, nI hlc, nI clc, nI sc, solM, livM, misF, nI qt, lr, a_ctorType, a_ctorFirst, a_ctorSecond, a_typeSize, a_typeCtors, a_rowFirst, a_rowSize, a_guardKind, a_guardA, a_guardB, a_clauseFirst, a_nodeKind, a_nodeArg, a_nodePos, a_nodeRow, a_altOf, a_altSide, a_nodeNew, a_after, a_holePos, a_holeType, a_holeOwner, a_holeSide, a_clauseRow, a_clauseNodes, a_clauseTests, a_testHead, a_clauseBind, a_litCount, a_lits, a_freshInt, a_stateMask, a_stateOpen, a_statePos, a_stateNext, a_child, a_bucketHead, a_pin, a_marked, a_queue, a_val, a_valType, a_bound) v') (nI tt, nI rl, nI rt, ph, nI cc, nI nc, nI rc, nI hlc, lr, ro, a_ctorType, a_ctorFirst, a_ctorSecond, a_nodeKind, a_nodeArg, a_nodePos, a_nodeRow, b_nUp, a_rowFirst, b_rowSize, a_guardKind, a_guardA, a_guardB, b_holePos, b_holeType, b_holeUp, b_head, b_headType, b_binds, b_look, b_lookType, b_bound, b_hit, b_part) v1 v2 v3 := by
    intro z
    by_cases z1 : v2 < -1
    · exact br_t c0 (br_f c1 (br_f c2' (br_t z1 ⟨rfl, R⟩)))
    · exact br_t c0 (br_f c1 (br_f c2' (br_f z1 (br_f (Int32.not_le.mpr (z.resolve_left z1)) ⟨rfl, R⟩))))
  refine br_t c0 (br_f c1 (br_t c2 (xw_isField (fun z => br_t rfl (yfail2 z)) (fun a1 a2 => br_f (by decide) ?_))))
  have a2' : v2 ≤ nI tt := Int32.not_lt.mp a2
  refine xw_isField (fun z => br_t rfl ?_) (fun b1 b2 => br_f (by decide) ?_)
  · by_cases z1 : v3 < -1
    · exact br_t c0 (br_f c1 (br_f c2' (br_f a1 (br_t a2' (br_t z1 ⟨rfl, R⟩)))))
    · exact br_t c0 (br_f c1 (br_f c2' (br_f a1 (br_t a2' (br_f z1 (br_t (z.resolve_left z1) ⟨rfl, R⟩))))))
  · have hT1 := hT.1
    have n0 : ¬ v1 < 0 := fun z => c1 (Int32.lt_trans z (by decide))
    obtain ⟨ty, ty1, rfl⟩ := nI_of n0
    have t1 : 1 ≤ ty := by
      rcases Nat.eq_zero_or_pos ty with z | z
      · subst z; exact absurd (by decide) c1
      · exact z
    have ttt : ty ≤ tt := (nI_leI ty1 (by omega)).mp c2
    obtain ⟨ets, hs3⟩ := hT.2.2.2.2.2.1 ty t1 (by omega)
    have ety : (nI ty).toNatClampNeg = ty := nI_clamp (by omega)
    have ecc : (nI cc).toNatClampNeg = cc := nI_clamp (by omega)
    have tr : ∀ post, wY_addConstructor_65 post (nI ty) v2 v3 (nI tt) (nI rl) (nI rt) ph (nI cc) (nI nc) (nI rc) (nI hlc) lr ro a_ctorType a_ctorFirst a_ctorSecond a_nodeKind a_nodeArg a_nodePos a_nodeRow b_nUp a_rowFirst b_rowSize a_guardKind a_guardA a_guardB b_holePos b_holeType b_holeUp b_head b_headType b_binds b_look b_lookType b_bound b_hit b_part → (v2 = -1 → v3 = -1) → wpY_addConstructor post (nI tt, nI rl, nI rt, ph, nI cc, nI nc, nI rc, nI hlc, lr, ro, a_ctorType, a_ctorFirst, a_ctorSecond, a_nodeKind, a_nodeArg, a_nodePos, a_nodeRow, b_nUp, a_rowFirst, b_rowSize, a_guardKind, a_guardA, a_guardB, b_holePos, b_holeType, b_holeUp, b_head, b_headType, b_binds, b_look, b_lookType, b_bound, b_hit, b_part) (nI ty) v2 v3 := by
      intro post hp hf
      refine br_t c0 (br_f c1 (br_f c2' (br_f a1 (br_t a2' (br_f b1 (br_f b2 (br_c (fun z => br_t (hf z) hp) (fun z => hp))))))))
    have core : (v2 = -1 → v3 = -1) → wX_addConstructor_58 (fun r u' => wpY_addConstructor (fun r' v' => r' = r ∧ i_Rel (k + 4) u' v') (nI tt, nI rl, nI rt, ph, nI cc, nI nc, nI rc, nI hlc, lr, ro, a_ctorType, a_ctorFirst, a_ctorSecond, a_nodeKind, a_nodeArg, a_nodePos, a_nodeRow, b_nUp, a_rowFirst, b_rowSize, a_guardKind, a_guardA, a_guardB, b_holePos, b_holeType, b_holeUp, b_head, b_headType, b_binds, b_look, b_lookType, b_bound, b_hit, b_part) (nI ty) v2 v3) (nI ty) v2 v3 (nI tt) (nI rl) (nI rt) ph (nI cc) (nI rc) ro (nI nc) (nI hlc) (nI clc) (nI sc) solM livM misF (nI qt) lr a_ctorType a_ctorFirst a_ctorSecond a_typeSize a_typeCtors a_rowFirst a_rowSize a_guardKind a_guardA a_guardB a_clauseFirst a_nodeKind a_nodeArg a_nodePos a_nodeRow a_altOf a_altSide a_nodeNew a_after a_holePos a_holeType a_holeOwner a_holeSide a_clauseRow a_clauseNodes a_clauseTests a_testHead a_clauseBind a_litCount a_lits a_freshInt a_stateMask a_stateOpen a_statePos a_stateNext a_child a_bucketHead a_pin a_marked a_queue a_val a_valType a_bound := by
      intro hf12
      have add : xt_cnt a_ctorType (nI ty) cc < 3 → (xt_cnt a_ctorType (nI ty) cc = 0 → ¬ nI ty ≤ v2 ∧ v3 < nI ty) → wX_addConstructor_93 (fun r u' => wpY_addConstructor (fun r' v' => r' = r ∧ i_Rel (k + 4) u' v') (nI tt, nI rl, nI rt, ph, nI cc, nI nc, nI rc, nI hlc, lr, ro, a_ctorType, a_ctorFirst, a_ctorSecond, a_nodeKind, a_nodeArg, a_nodePos, a_nodeRow, b_nUp, a_rowFirst, b_rowSize, a_guardKind, a_guardA, a_guardB, b_holePos, b_holeType, b_holeUp, b_head, b_headType, b_binds, b_look, b_lookType, b_bound, b_hit, b_part) (nI ty) v2 v3) (nI ty) v2 v3 (nI (xt_cnt a_ctorType (nI ty) cc)) (nI tt) (nI rl) (nI rt) ph (nI cc) (nI rc) ro (nI nc) (nI hlc) (nI clc) (nI sc) solM livM misF (nI qt) lr a_ctorType a_ctorFirst a_ctorSecond a_typeSize a_typeCtors a_rowFirst a_rowSize a_guardKind a_guardA a_guardB a_clauseFirst a_nodeKind a_nodeArg a_nodePos a_nodeRow a_altOf a_altSide a_nodeNew a_after a_holePos a_holeType a_holeOwner a_holeSide a_clauseRow a_clauseNodes a_clauseTests a_testHead a_clauseBind a_litCount a_lits a_freshInt a_stateMask a_stateOpen a_statePos a_stateNext a_child a_bucketHead a_pin a_marked a_queue a_val a_valType a_bound := by
        intro hs hz
        obtain ⟨hcc, hT'⟩ := rl_addT (f1 := v2) (f2 := v3) hT c0 t1 ttt hs (rl_fld (by omega) a1 a2) (rl_fld (by omega) b1 b2) hf12
        have wc : vp_in (nI cc) 12 := vp_in_nI hcc (by omega)
        have e3 : nI ty * 3 + nI (xt_cnt a_ctorType (nI ty) cc) = nI (ty * 3 + xt_cnt a_ctorType (nI ty) cc) := by rw [show (3 : Int32) = nI 3 from rfl, pk_mul, nI_add]
        have R' : i_Rel (k + 4) (nI tt, nI rl, nI rt, ph, nI (cc + 1), nI rc, ro, nI nc, nI hlc, nI clc, nI sc, solM, livM, misF, nI qt, lr, upd a_ctorType cc (nI ty), upd a_ctorFirst cc v2, upd a_ctorSecond cc v3, upd a_typeSize ty (nI (xt_cnt a_ctorType (nI ty) cc + 1)), upd a_typeCtors (ty * 3 + xt_cnt a_ctorType (nI ty) cc) (nI cc), a_rowFirst, a_rowSize, a_guardKind, a_guardA, a_guardB, a_clauseFirst, a_nodeKind, a_nodeArg, a_nodePos, a_nodeRow, a_altOf, a_altSide, a_nodeNew, a_after, a_holePos, a_holeType, a_holeOwner, a_holeSide, a_clauseRow, a_clauseNodes, a_clauseTests, a_testHead, a_clauseBind, a_litCount, a_lits, a_freshInt, a_stateMask, a_stateOpen, a_statePos, a_stateNext, a_child, a_bucketHead, a_pin, a_marked, a_queue, a_val, a_valType, a_bound) (nI tt, nI rl, nI rt, ph, nI (cc + 1), nI nc, nI rc, nI hlc, lr, ro, upd a_ctorType cc (nI ty), upd a_ctorFirst cc v2, upd a_ctorSecond cc v3, a_nodeKind, a_nodeArg, a_nodePos, a_nodeRow, b_nUp, a_rowFirst, b_rowSize, a_guardKind, a_guardA, a_guardB, b_holePos, b_holeType, b_holeUp, b_head, b_headType, b_binds, b_look, b_lookType, b_bound, b_hit, b_part) := by
          obtain ⟨r0, n0⟩ := h0 c0
          have ro0 : ro = 0 := Classical.byContradiction (fun z => by have := h1 z; rw [c0] at this; exact absurd this (by decide))
          have clc0 : clc = 0 := by rw [hN.2.2.2.2.2.2.1, r0]; exact hN.2.2.2.1
          refine zz_in ⟨fr, sz, cf, hT', rl_N0 r0 n0 hN.2.2.1 hN.2.2.2.1 clc0, Or.inl ?_, ⟨fun p p1 p7 => ?_, hV.2.1, hV.2.2⟩, hB, fun z => ?_, h0, h1⟩
          · rcases hO with z | z
            · exact z
            · rw [ro0] at z; exact absurd z.1 (by decide)
          · have := hV.2.2 c0 p p1 p7
            exact ⟨(hV.1 p p1 p7).1, fun z => absurd this z, fun z => absurd this z, fun z => absurd this z⟩
          · rw [c0] at z; exact absurd z (by decide)
        unfold wX_addConstructor_93
        rw [e3, ecc, ety, nI_clamp (by omega : ty * 3 + xt_cnt a_ctorType (nI ty) cc < 2 ^ 31)]
        refine ⟨wc, nm_e ⟨wc, nm_e ⟨wc, nm_e ⟨vp_in_nI (by omega) (by omega), nm_e ⟨vp_in_nI (by omega) (by omega), nm_r (e' := upd a_typeSize ty (nI (xt_cnt a_ctorType (nI ty) cc + 1))) (by rw [nI_1]) (nm_r (nI_1 cc) ?_)⟩⟩⟩⟩⟩
        refine tr _ ?_ hf12
        unfold wY_addConstructor_65
        have fin : wY_addConstructor_99 (fun r' v' => r' = nI cc ∧ i_Rel (k + 4) (nI tt, nI rl, nI rt, ph, nI (cc + 1), nI rc, ro, nI nc, nI hlc, nI clc, nI sc, solM, livM, misF, nI qt, lr, upd a_ctorType cc (nI ty), upd a_ctorFirst cc v2, upd a_ctorSecond cc v3, upd a_typeSize ty (nI (xt_cnt a_ctorType (nI ty) cc + 1)), upd a_typeCtors (ty * 3 + xt_cnt a_ctorType (nI ty) cc) (nI cc), a_rowFirst, a_rowSize, a_guardKind, a_guardA, a_guardB, a_clauseFirst, a_nodeKind, a_nodeArg, a_nodePos, a_nodeRow, a_altOf, a_altSide, a_nodeNew, a_after, a_holePos, a_holeType, a_holeOwner, a_holeSide, a_clauseRow, a_clauseNodes, a_clauseTests, a_testHead, a_clauseBind, a_litCount, a_lits, a_freshInt, a_stateMask, a_stateOpen, a_statePos, a_stateNext, a_child, a_bucketHead, a_pin, a_marked, a_queue, a_val, a_valType, a_bound) v') (nI ty) v2 v3 (nI tt) (nI rl) (nI rt) ph (nI cc) (nI nc) (nI rc) (nI hlc) lr ro a_ctorType a_ctorFirst a_ctorSecond a_nodeKind a_nodeArg a_nodePos a_nodeRow b_nUp a_rowFirst b_rowSize a_guardKind a_guardA a_guardB b_holePos b_holeType b_holeUp b_head b_headType b_binds b_look b_lookType b_bound b_hit b_part := by
          unfold wY_addConstructor_99
          rw [ecc]
          exact ⟨wc, nm_e ⟨wc, nm_e ⟨wc, nm_e (nm_r (nI_1 cc) ⟨rfl, R'⟩)⟩⟩⟩
        refine yw_ctorsOf (by omega) (br_f (fun z => ?_) (br_c (fun z => ?_) (fun z => fin)))
        · have := (nI_eq (a := xt_cnt a_ctorType (nI ty) cc) (b := 3) (by omega) (by omega)).mp z; omega
        · have z' := (nI_eq (a := xt_cnt a_ctorType (nI ty) cc) (b := 0) (by omega) (by omega)).mp z
          exact br_f (hz z').1 (br_t (hz z').2 fin)
      unfold wX_addConstructor_58
      rw [ety]
      refine ⟨vp_in_nI (by omega) (by omega), nm_r ets ?_⟩
      refine pk_lt (xt_cnt a_ctorType (nI ty) cc) 3 (fun hs => pk_eq (xt_cnt a_ctorType (nI ty) cc) 0 (fun z => br_c (fun y => ?_) (fun y => br_c (fun x => add hs (fun _ => ⟨y, x⟩)) (fun x => ?_))) (fun z => add hs (fun y => absurd y z))) (fun hs => ?_)
      · refine tr _ ?_ hf12
        unfold wY_addConstructor_65
        refine yw_ctorsOf (by omega) (br_f (fun w => ?_) (br_t (by rw [z]; rfl) (br_t y ⟨rfl, R⟩)))
        rw [z] at w; exact absurd w (by decide)
      · refine tr _ ?_ hf12
        unfold wY_addConstructor_65
        refine yw_ctorsOf (by omega) (br_f (fun w => ?_) (br_t (by rw [z]; rfl) (br_f y (br_f x ⟨rfl, R⟩))))
        rw [z] at w; exact absurd w (by decide)
      · refine tr _ ?_ hf12
        unfold wY_addConstructor_65
        exact yw_ctorsOf (by omega) (br_t (by rw [show xt_cnt a_ctorType (nI ty) cc = 3 by omega]; rfl) ⟨rfl, R⟩)
    refine br_c (fun z => br_c (fun y => core (fun _ => y)) (fun y => ?_)) (fun z => core (fun y => absurd y z))
    exact br_t c0 (br_f c1 (br_f c2' (br_f a1 (br_t a2' (br_f b1 (br_f b2 (br_t z (br_f y ⟨rfl, R⟩))))))))
end
end
section
section
variable {tt rl rt cc rc nc hlc clc sc qt : Nat} {ph ro misF lr : Int32} {solM livM : Int64} {a_ctorType a_ctorFirst a_ctorSecond a_typeSize a_typeCtors a_rowFirst a_rowSize a_guardKind a_guardA a_guardB a_clauseFirst a_nodeKind a_nodeArg a_nodePos a_nodeRow a_altOf a_altSide a_nodeNew a_after a_holePos a_holeType a_holeOwner a_holeSide a_clauseRow a_clauseTests a_testHead a_clauseBind a_litCount a_lits a_freshInt a_stateOpen a_statePos a_stateNext a_child a_bucketHead a_pin a_marked a_queue a_val a_valType a_bound : Nat → Int32} {a_clauseNodes a_stateMask : Nat → Int64} {b_nUp b_rowSize b_holePos b_holeType b_holeUp b_head b_headType b_binds b_look b_lookType b_bound b_hit b_part : Nat → Int32}
variable {k : Nat} {fr sz cf : Nat → Nat}
theorem vc_seal (hA : rl_All tt rl rt cc ph a_ctorType a_ctorFirst a_ctorSecond a_typeSize a_typeCtors rc nc clc a_nodeKind a_nodeArg a_nodePos a_nodeRow b_nUp a_altOf a_altSide a_nodeNew a_rowFirst a_rowSize b_rowSize a_guardKind a_guardA a_guardB a_clauseFirst a_clauseRow a_clauseNodes a_clauseTests a_testHead a_clauseBind hlc ro a_holePos a_holeType a_holeOwner a_holeSide b_holePos b_holeType b_holeUp a_valType a_val b_headType b_head sc misF solM livM a_litCount a_lits a_freshInt a_stateMask a_stateOpen a_statePos a_child a_bound b_binds) : wpX_seal (fun r u' => wpY_seal (fun r' v' => r' = r ∧ i_Rel (k + 4) u' v') (nI tt, nI rl, nI rt, ph, nI cc, nI nc, nI rc, nI hlc, lr, ro, a_ctorType, a_ctorFirst, a_ctorSecond, a_nodeKind, a_nodeArg, a_nodePos, a_nodeRow, b_nUp, a_rowFirst, b_rowSize, a_guardKind, a_guardA, a_guardB, b_holePos, b_holeType, b_holeUp, b_head, b_headType, b_binds, b_look, b_lookType, b_bound, b_hit, b_part)) (nI tt, nI rl, nI rt, ph, nI cc, nI rc, ro, nI nc, nI hlc, nI clc, nI sc, solM, livM, misF, nI qt, lr, a_ctorType, a_ctorFirst, a_ctorSecond, a_typeSize, a_typeCtors, a_rowFirst, a_rowSize, a_guardKind, a_guardA, a_guardB, a_clauseFirst, a_nodeKind, a_nodeArg, a_nodePos, a_nodeRow, a_altOf, a_altSide, a_nodeNew, a_after, a_holePos, a_holeType, a_holeOwner, a_holeSide, a_clauseRow, a_clauseNodes, a_clauseTests, a_testHead, a_clauseBind, a_litCount, a_lits, a_freshInt, a_stateMask, a_stateOpen, a_statePos, a_stateNext, a_child, a_bucketHead, a_pin, a_marked, a_queue, a_val, a_valType, a_bound) := by
  have R : i_Rel (k + 4) (nI tt, nI rl, nI rt, ph, nI cc, nI rc, ro, nI nc, nI hlc, nI clc, nI sc, solM, livM, misF, nI qt, lr, a_ctorType, a_ctorFirst, a_ctorSecond, a_typeSize, a_typeCtors, a_rowFirst, a_rowSize, a_guardKind, a_guardA, a_guardB, a_clauseFirst, a_nodeKind, a_nodeArg, a_nodePos, a_nodeRow, a_altOf, a_altSide, a_nodeNew, a_after, a_holePos, a_holeType, a_holeOwner, a_holeSide, a_clauseRow, a_clauseNodes, a_clauseTests, a_testHead, a_clauseBind, a_litCount, a_lits, a_freshInt, a_stateMask, a_stateOpen, a_statePos, a_stateNext, a_child, a_bucketHead, a_pin, a_marked, a_queue, a_val, a_valType, a_bound) (nI tt, nI rl, nI rt, ph, nI cc, nI nc, nI rc, nI hlc, lr, ro, a_ctorType, a_ctorFirst, a_ctorSecond, a_nodeKind, a_nodeArg, a_nodePos, a_nodeRow, b_nUp, a_rowFirst, b_rowSize, a_guardKind, a_guardA, a_guardB, b_holePos, b_holeType, b_holeUp, b_head, b_headType, b_binds, b_look, b_lookType, b_bound, b_hit, b_part) := zz_in hA
  obtain ⟨fr, sz, cf, hT, hN, hO, hV, hB, hG, h0, h1⟩ := hA
  have hT1 := hT.1
  by_cases c0 : ¬ ph = 0
  · exact br_f c0 (br_f c0 ⟨rfl, R⟩)
  have c0 := Classical.not_not.mp c0
  have cz : ∀ t, 1 ≤ t → t ≤ 4 → (a_typeSize t = 0 ↔ nI (xt_cnt a_ctorType (nI t) cc) = 0) := fun t t1 t4 => by rw [(hT.2.2.2.2.2.1 t t1 t4).1]
  have yfail : ∀ post : Int32 → SY → Prop, (¬ ∀ t, 1 ≤ t → t ≤ tt → a_typeSize t ≠ 0) → post (-6) (nI tt, nI rl, nI rt, ph, nI cc, nI nc, nI rc, nI hlc, lr, ro, a_ctorType, a_ctorFirst, a_ctorSecond, a_nodeKind, a_nodeArg, a_nodePos, a_nodeRow, b_nUp, a_rowFirst, b_rowSize, a_guardKind, a_guardA, a_guardB, b_holePos, b_holeType, b_holeUp, b_head, b_headType, b_binds, b_look, b_lookType, b_bound, b_hit, b_part) → wpY_seal post (nI tt, nI rl, nI rt, ph, nI cc, nI nc, nI rc, nI hlc, lr, ro, a_ctorType, a_ctorFirst, a_ctorSecond, a_nodeKind, a_nodeArg, a_nodePos, a_nodeRow, b_nUp, a_rowFirst, b_rowSize, a_guardKind, a_guardA, a_guardB, b_holePos, b_holeType, b_holeUp, b_head, b_headType, b_binds, b_look, b_lookType, b_bound, b_hit, b_part) := by
    intro post hno hp
    have loop : ∀ d i, i + d = tt + 1 → 1 ≤ i → (∀ t, 1 ≤ t → t < i → a_typeSize t ≠ 0) → wY_seal_12 post (nI tt) (nI rl) (nI rt) ph (nI cc) (nI nc) (nI rc) (nI hlc) lr ro a_ctorType a_ctorFirst a_ctorSecond a_nodeKind a_nodeArg a_nodePos a_nodeRow b_nUp a_rowFirst b_rowSize a_guardKind a_guardA a_guardB b_holePos b_holeType b_holeUp b_head b_headType b_binds b_look b_lookType b_bound b_hit b_part (d + 1) (nI i) := by
      intro d
      induction d with
      | zero => intro i hi i1 h; exact absurd (fun t t1 t2 => h t t1 (by omega)) hno
      | succ d ih =>
        intro i hi i1 h
        refine br_f (nI_nlt (by omega) (by omega)) (yw_ctorsOf (by omega) (br_c (fun z => hp) (fun z => nm_r (nI_1 i) (ih (i + 1) (by omega) (by omega) (fun t t1 t2 => ?_)))))
        by_cases q : t = i
        · subst q; exact fun y => z ((cz t t1 (by omega)).mp y)
        · exact h t t1 (by omega)
    exact br_t c0 ⟨tt + 1, loop tt 1 (by omega) (by omega) (fun t a b => by omega)⟩
  have ygood : ∀ post : Int32 → SY → Prop, (∀ t, 1 ≤ t → t ≤ tt → a_typeSize t ≠ 0) → post 0 (nI tt, nI rl, nI rt, 1, nI cc, nI nc, nI rc, nI hlc, lr, ro, a_ctorType, a_ctorFirst, a_ctorSecond, a_nodeKind, a_nodeArg, a_nodePos, a_nodeRow, b_nUp, a_rowFirst, b_rowSize, a_guardKind, a_guardA, a_guardB, b_holePos, b_holeType, b_holeUp, b_head, b_headType, b_binds, b_look, b_lookType, b_bound, b_hit, b_part) → wpY_seal post (nI tt, nI rl, nI rt, ph, nI cc, nI nc, nI rc, nI hlc, lr, ro, a_ctorType, a_ctorFirst, a_ctorSecond, a_nodeKind, a_nodeArg, a_nodePos, a_nodeRow, b_nUp, a_rowFirst, b_rowSize, a_guardKind, a_guardA, a_guardB, b_holePos, b_holeType, b_holeUp, b_head, b_headType, b_binds, b_look, b_lookType, b_bound, b_hit, b_part) := by
    intro post hall hp
    have loop : ∀ d i, i + d = tt + 1 → 1 ≤ i → wY_seal_12 post (nI tt) (nI rl) (nI rt) ph (nI cc) (nI nc) (nI rc) (nI hlc) lr ro a_ctorType a_ctorFirst a_ctorSecond a_nodeKind a_nodeArg a_nodePos a_nodeRow b_nUp a_rowFirst b_rowSize a_guardKind a_guardA a_guardB b_holePos b_holeType b_holeUp b_head b_headType b_binds b_look b_lookType b_bound b_hit b_part (d + 1) (nI i) := by
      intro d
      induction d with
      | zero => intro i hi i1; exact br_t (nI_lt (by omega) (by omega)) hp
      | succ d ih =>
        intro i hi i1
        exact br_f (nI_nlt (by omega) (by omega)) (yw_ctorsOf (by omega) (br_f (fun z => hall i i1 (by omega) ((cz i i1 (by omega)).mpr z)) (nm_r (nI_1 i) (ih (i + 1) (by omega) (by omega)))))
    exact br_t c0 ⟨tt + 1, loop tt 1 (by omega) (by omega)⟩
  have loop : ∀ d i, i + d = tt + 1 → 1 ≤ i → (∀ t, 1 ≤ t → t < i → a_typeSize t ≠ 0) → wX_seal_12 (fun r u' => wpY_seal (fun r' v' => r' = r ∧ i_Rel (k + 4) u' v') (nI tt, nI rl, nI rt, ph, nI cc, nI nc, nI rc, nI hlc, lr, ro, a_ctorType, a_ctorFirst, a_ctorSecond, a_nodeKind, a_nodeArg, a_nodePos, a_nodeRow, b_nUp, a_rowFirst, b_rowSize, a_guardKind, a_guardA, a_guardB, b_holePos, b_holeType, b_holeUp, b_head, b_headType, b_binds, b_look, b_lookType, b_bound, b_hit, b_part)) (nI tt) (nI rl) (nI rt) ph (nI cc) (nI rc) ro (nI nc) (nI hlc) (nI clc) (nI sc) solM livM misF (nI qt) lr a_ctorType a_ctorFirst a_ctorSecond a_typeSize a_typeCtors a_rowFirst a_rowSize a_guardKind a_guardA a_guardB a_clauseFirst a_nodeKind a_nodeArg a_nodePos a_nodeRow a_altOf a_altSide a_nodeNew a_after a_holePos a_holeType a_holeOwner a_holeSide a_clauseRow a_clauseNodes a_clauseTests a_testHead a_clauseBind a_litCount a_lits a_freshInt a_stateMask a_stateOpen a_statePos a_stateNext a_child a_bucketHead a_pin a_marked a_queue a_val a_valType a_bound (d + 1) (nI i) := by
    intro d
    induction d with
    | zero =>
      intro i hi i1 h
      have hall : ∀ t, 1 ≤ t → t ≤ tt → a_typeSize t ≠ 0 := fun t t1 t2 => h t t1 (by omega)
      refine br_t (nI_lt (by omega) (by omega)) (ygood _ hall ⟨rfl, zz_in ⟨fr, sz, cf, ⟨hT.1, Or.inr (Or.inl rfl), hT.2.2.1, hT.2.2.2.1, hT.2.2.2.2.1, hT.2.2.2.2.2.1, hT.2.2.2.2.2.2.1, fun _ => hall⟩, hN, hO, rl_Vph hV (by decide), hB, fun z => absurd z (by decide), fun z => absurd z (by decide), fun z => rfl⟩⟩)
    | succ d ih =>
      intro i hi i1 h
      refine br_f (nI_nlt (by omega) (by omega)) ⟨vp_in_nI (by omega) (by omega), ?_⟩
      rw [nI_clamp (by omega : i < 2 ^ 31)]
      refine br_c (fun z => yfail _ (fun y => y i i1 (by omega) z) ⟨rfl, R⟩) (fun z => nm_r (nI_1 i) (ih (i + 1) (by omega) (by omega) (fun t t1 t2 => ?_)))
      by_cases q : t = i
      · subst q; exact z
      · exact h t t1 (by omega)
  exact br_t c0 ⟨tt + 1, loop tt 1 (by omega) (by omega) (fun t a b => by omega)⟩
theorem xw_push {post : SX → Prop} {a b c d : Int32} (h16 : hlc < 16) (h : post (nI tt, nI rl, nI rt, ph, nI cc, nI rc, ro, nI nc, nI (hlc + 1), nI clc, nI sc, solM, livM, misF, nI qt, lr, a_ctorType, a_ctorFirst, a_ctorSecond, a_typeSize, a_typeCtors, a_rowFirst, a_rowSize, a_guardKind, a_guardA, a_guardB, a_clauseFirst, a_nodeKind, a_nodeArg, a_nodePos, a_nodeRow, a_altOf, a_altSide, a_nodeNew, a_after, upd a_holePos hlc a, upd a_holeType hlc b, upd a_holeOwner hlc c, upd a_holeSide hlc d, a_clauseRow, a_clauseNodes, a_clauseTests, a_testHead, a_clauseBind, a_litCount, a_lits, a_freshInt, a_stateMask, a_stateOpen, a_statePos, a_stateNext, a_child, a_bucketHead, a_pin, a_marked, a_queue, a_val, a_valType, a_bound)) : wpX_pushHole post (nI tt, nI rl, nI rt, ph, nI cc, nI rc, ro, nI nc, nI hlc, nI clc, nI sc, solM, livM, misF, nI qt, lr, a_ctorType, a_ctorFirst, a_ctorSecond, a_typeSize, a_typeCtors, a_rowFirst, a_rowSize, a_guardKind, a_guardA, a_guardB, a_clauseFirst, a_nodeKind, a_nodeArg, a_nodePos, a_nodeRow, a_altOf, a_altSide, a_nodeNew, a_after, a_holePos, a_holeType, a_holeOwner, a_holeSide, a_clauseRow, a_clauseNodes, a_clauseTests, a_testHead, a_clauseBind, a_litCount, a_lits, a_freshInt, a_stateMask, a_stateOpen, a_statePos, a_stateNext, a_child, a_bucketHead, a_pin, a_marked, a_queue, a_val, a_valType, a_bound) a b c d := by
  have e : (nI hlc).toNatClampNeg = hlc := nI_clamp (by omega)
  have w : vp_in (nI hlc) 16 := vp_in_nI h16 (by omega)
  exact br_f (nI_ge (a := hlc) (b := 16) h16 (by omega)) ⟨w, nm_r (e' := upd a_holePos hlc a) (by rw [e]) ⟨w, nm_r (e' := upd a_holeType hlc b) (by rw [e]) ⟨w, nm_r (e' := upd a_holeOwner hlc c) (by rw [e]) ⟨w, nm_r (e' := upd a_holeSide hlc d) (by rw [e]) (nm_r (nI_1 hlc) h)⟩⟩⟩⟩
/-- a closed row's facts look at the row tables only at its number -/
theorem rl_R_row {RF RSx RSy GK GA GB CF : Nat → Int32} {r : Nat} (h : rl_R rt cc a_ctorType a_ctorFirst a_ctorSecond a_nodeKind a_nodeArg a_nodePos a_nodeRow b_nUp a_altOf a_altSide a_rowFirst a_rowSize b_rowSize a_guardKind a_guardA a_guardB a_clauseFirst a_clauseRow a_clauseNodes a_clauseTests a_testHead a_clauseBind fr sz cf r) (e1 : RF r = a_rowFirst r) (e2 : RSx r = a_rowSize r) (e3 : RSy r = b_rowSize r) (e4 : GK r = a_guardKind r) (e5 : GA r = a_guardA r) (e6 : GB r = a_guardB r) (e7 : CF r = a_clauseFirst r) : rl_R rt cc a_ctorType a_ctorFirst a_ctorSecond a_nodeKind a_nodeArg a_nodePos a_nodeRow b_nUp a_altOf a_altSide RF RSx RSy GK GA GB CF a_clauseRow a_clauseNodes a_clauseTests a_testHead a_clauseBind fr sz cf r := by
  obtain ⟨h1, h2, h3, h4, h5, h6, h7, h8, h9, h10, h11, h12, h13⟩ := h
  refine ⟨h1, e1.trans h2, e2.trans h3, e3.trans h4, h5, h6, h7, ?_, e7.trans h9, h10, h11, h12, h13⟩
  unfold gd_ok at *
  rw [e4, e5, e6]; exact h8
theorem vc_beginRow (hA : rl_All tt rl rt cc ph a_ctorType a_ctorFirst a_ctorSecond a_typeSize a_typeCtors rc nc clc a_nodeKind a_nodeArg a_nodePos a_nodeRow b_nUp a_altOf a_altSide a_nodeNew a_rowFirst a_rowSize b_rowSize a_guardKind a_guardA a_guardB a_clauseFirst a_clauseRow a_clauseNodes a_clauseTests a_testHead a_clauseBind hlc ro a_holePos a_holeType a_holeOwner a_holeSide b_holePos b_holeType b_holeUp a_valType a_val b_headType b_head sc misF solM livM a_litCount a_lits a_freshInt a_stateMask a_stateOpen a_statePos a_child a_bound b_binds) : wpX_beginRow (fun r u' => wpY_beginRow (fun r' v' => r' = r ∧ i_Rel (k + 4) u' v') (nI tt, nI rl, nI rt, ph, nI cc, nI nc, nI rc, nI hlc, lr, ro, a_ctorType, a_ctorFirst, a_ctorSecond, a_nodeKind, a_nodeArg, a_nodePos, a_nodeRow, b_nUp, a_rowFirst, b_rowSize, a_guardKind, a_guardA, a_guardB, b_holePos, b_holeType, b_holeUp, b_head, b_headType, b_binds, b_look, b_lookType, b_bound, b_hit, b_part)) (nI tt, nI rl, nI rt, ph, nI cc, nI rc, ro, nI nc, nI hlc, nI clc, nI sc, solM, livM, misF, nI qt, lr, a_ctorType, a_ctorFirst, a_ctorSecond, a_typeSize, a_typeCtors, a_rowFirst, a_rowSize, a_guardKind, a_guardA, a_guardB, a_clauseFirst, a_nodeKind, a_nodeArg, a_nodePos, a_nodeRow, a_altOf, a_altSide, a_nodeNew, a_after, a_holePos, a_holeType, a_holeOwner, a_holeSide, a_clauseRow, a_clauseNodes, a_clauseTests, a_testHead, a_clauseBind, a_litCount, a_lits, a_freshInt, a_stateMask, a_stateOpen, a_statePos, a_stateNext, a_child, a_bucketHead, a_pin, a_marked, a_queue, a_val, a_valType, a_bound) := by
  have R : i_Rel (k + 4) (nI tt, nI rl, nI rt, ph, nI cc, nI rc, ro, nI nc, nI hlc, nI clc, nI sc, solM, livM, misF, nI qt, lr, a_ctorType, a_ctorFirst, a_ctorSecond, a_typeSize, a_typeCtors, a_rowFirst, a_rowSize, a_guardKind, a_guardA, a_guardB, a_clauseFirst, a_nodeKind, a_nodeArg, a_nodePos, a_nodeRow, a_altOf, a_altSide, a_nodeNew, a_after, a_holePos, a_holeType, a_holeOwner, a_holeSide, a_clauseRow, a_clauseNodes, a_clauseTests, a_testHead, a_clauseBind, a_litCount, a_lits, a_freshInt, a_stateMask, a_stateOpen, a_statePos, a_stateNext, a_child, a_bucketHead, a_pin, a_marked, a_queue, a_val, a_valType, a_bound) (nI tt, nI rl, nI rt, ph, nI cc, nI nc, nI rc, nI hlc, lr, ro, a_ctorType, a_ctorFirst, a_ctorSecond, a_nodeKind, a_nodeArg, a_nodePos, a_nodeRow, b_nUp, a_rowFirst, b_rowSize, a_guardKind, a_guardA, a_guardB, b_holePos, b_holeType, b_holeUp, b_head, b_headType, b_binds, b_look, b_lookType, b_bound, b_hit, b_part) := zz_in hA
  obtain ⟨fr, sz, cf, hT, hN, hO, hV, hB, hG, h0, h1⟩ := hA
  have hT1 := hT.1
  have hrl := hN.1
  have hnc := hN.2.1
  by_cases c0 : ph = 0
  · refine br_t c0 (br_t c0 ?_)
    unfold wY_beginRow_14
    exact br_t c0 ⟨rfl, R⟩
  by_cases c1 : ¬ ro = 0
  · refine br_f c0 (br_f c1 (br_f c0 (br_f c1 ?_)))
    unfold wY_beginRow_14
    exact br_f c0 ⟨rfl, R⟩
  have c1 := Classical.not_not.mp c1
  have hcl : nc = fr rc ∧ hlc = 0 := by
    rcases hO with z | z
    · exact z.2
    · rw [c1] at z; exact absurd z.1 (by decide)
  refine br_f c0 (br_t c1 (pk_le rl rc (fun z => br_f c0 (br_t c1 (br_t (by rw [show rc = rl by omega]) ⟨rfl, R⟩))) (fun z => pk_lt nc 48 (fun y => ?_) (fun y => br_f c0 (br_t c1 (br_f (fun w => ?_) (br_t (by rw [show nc = 48 by omega]; rfl) ⟨rfl, R⟩)))))))
  · have erc : (nI rc).toNatClampNeg = rc := nI_clamp (by omega)
    have wr : vp_in (nI rc) 8 := vp_in_nI (by omega) (by omega)
    refine ⟨wr, nm_r (e' := upd a_rowFirst rc (nI nc)) (by rw [erc]) ?_⟩
    refine xw_push (hlc := 0) (by omega) (xw_forget (fun BD hBD => ?_))
    refine br_f c0 (br_t c1 (br_f (fun w => ?_) (br_f (fun w => ?_) (nm_e (nm_e (nm_e ⟨wr, nm_r (e' := upd a_rowFirst rc (nI nc)) (by rw [erc]) ⟨wr, nm_r (e' := upd b_rowSize rc 0) (by rw [erc]) (yw_forget (fun BD' hBD' => ⟨rfl, ?_⟩))⟩⟩))))))
    · have := (nI_eq (by omega) (by omega)).mp w; omega
    · have := (nI_eq (a := nc) (b := 48) (by omega) (by omega)).mp w; omega
    · refine zz_in (hlc := 1) (ro := 1) (ph := 1) ⟨fr, sz, cf, rl_Tph hT c0 (Or.inl rfl), ⟨hrl, hnc, hN.2.2.1, hN.2.2.2.1, fun r hr => ?_, hN.2.2.2.2.2.1, hN.2.2.2.2.2.2.1, hN.2.2.2.2.2.2.2.1, hN.2.2.2.2.2.2.2.2.1, hN.2.2.2.2.2.2.2.2.2⟩, Or.inr ⟨rfl, z, ?_, ?_, fun n a b => by omega, by omega, by omega, [(1, nI rt, -1, -1, 0)], rfl, ?_, ?_, ?_⟩, rl_Vph hV (by decide), fun v hv => by rw [hBD v hv, hBD' v hv], fun z => absurd z (by decide), fun z => absurd z (by decide), fun _ => rfl⟩
      · exact rl_R_row (hN.2.2.2.2.1 r hr) (pk_un (by omega)) rfl (pk_un (by omega)) rfl rfl rfl rfl
      · rw [pk_us, hcl.1]
      · rw [pk_us, hcl.1, Nat.sub_self]; rfl
      · rw [hcl.1, Nat.sub_self]; rfl
      · intro g hg; simp at hg; rw [hg]; exact ⟨by show 1 ≤ 1; omega, by show 1 ≤ 7; omega⟩
      · exact ⟨pk_us, pk_us, pk_us, pk_us, pk_us, pk_us, pk_us, trivial⟩
  · have := (nI_eq (by omega) (by omega)).mp w; omega
theorem rl_drop {rc' nc' : Nat} (hN : rl_N rt cc rl rc nc clc a_ctorType a_ctorFirst a_ctorSecond a_nodeKind a_nodeArg a_nodePos a_nodeRow b_nUp a_altOf a_altSide a_nodeNew a_rowFirst a_rowSize b_rowSize a_guardKind a_guardA a_guardB a_clauseFirst a_clauseRow a_clauseNodes a_clauseTests a_testHead a_clauseBind fr sz cf) (h1 : rc' ≤ rc) (h2 : nc' = fr rc') (h3 : nc' ≤ nc) : rl_N rt cc rl rc' nc' (cf rc') a_ctorType a_ctorFirst a_ctorSecond a_nodeKind a_nodeArg a_nodePos a_nodeRow b_nUp a_altOf a_altSide a_nodeNew a_rowFirst a_rowSize b_rowSize a_guardKind a_guardA a_guardB a_clauseFirst a_clauseRow a_clauseNodes a_clauseTests a_testHead a_clauseBind fr sz cf := by
  obtain ⟨a1, a2, a3, a4, a5, a6, a7, a8, a9, a10⟩ := hN
  refine ⟨by omega, by omega, a3, a4, fun r hr => a5 r (by omega), by omega, rfl, fun n hn => a8 n (by omega), fun p p1 p7 => ?_, fun n hn => a10 n (by omega)⟩
  have := xl_cnt_mono (NW := a_nodeNew) (P := a_nodePos) (p := p) (nc - nc') nc'
  rw [show nc' + (nc - nc') = nc by omega] at this
  exact Nat.le_trans this (a9 p p1 p7)
theorem rl_frle (hN : rl_N rt cc rl rc nc clc a_ctorType a_ctorFirst a_ctorSecond a_nodeKind a_nodeArg a_nodePos a_nodeRow b_nUp a_altOf a_altSide a_nodeNew a_rowFirst a_rowSize b_rowSize a_guardKind a_guardA a_guardB a_clauseFirst a_clauseRow a_clauseNodes a_clauseTests a_testHead a_clauseBind fr sz cf) : ∀ r, r ≤ rc → fr r ≤ nc := by
  have key : ∀ d r, r + d = rc → fr r ≤ nc := by
    intro d
    induction d with
    | zero => intro r hr; have := hN.2.2.2.2.2.1; rw [show r = rc by omega]; exact this
    | succ d ih => intro r hr; have := ih (r + 1) (by omega); have h2 := (hN.2.2.2.2.1 r (by omega)).1; omega
  intro r hr
  exact key (rc - r) r (by omega)
theorem vc_dropRow (hA : rl_All tt rl rt cc ph a_ctorType a_ctorFirst a_ctorSecond a_typeSize a_typeCtors rc nc clc a_nodeKind a_nodeArg a_nodePos a_nodeRow b_nUp a_altOf a_altSide a_nodeNew a_rowFirst a_rowSize b_rowSize a_guardKind a_guardA a_guardB a_clauseFirst a_clauseRow a_clauseNodes a_clauseTests a_testHead a_clauseBind hlc ro a_holePos a_holeType a_holeOwner a_holeSide b_holePos b_holeType b_holeUp a_valType a_val b_headType b_head sc misF solM livM a_litCount a_lits a_freshInt a_stateMask a_stateOpen a_statePos a_child a_bound b_binds) : wpX_dropRow (fun r u' => wpY_dropRow (fun r' v' => r' = r ∧ i_Rel (k + 4) u' v') (nI tt, nI rl, nI rt, ph, nI cc, nI nc, nI rc, nI hlc, lr, ro, a_ctorType, a_ctorFirst, a_ctorSecond, a_nodeKind, a_nodeArg, a_nodePos, a_nodeRow, b_nUp, a_rowFirst, b_rowSize, a_guardKind, a_guardA, a_guardB, b_holePos, b_holeType, b_holeUp, b_head, b_headType, b_binds, b_look, b_lookType, b_bound, b_hit, b_part)) (nI tt, nI rl, nI rt, ph, nI cc, nI rc, ro, nI nc, nI hlc, nI clc, nI sc, solM, livM, misF, nI qt, lr, a_ctorType, a_ctorFirst, a_ctorSecond, a_typeSize, a_typeCtors, a_rowFirst, a_rowSize, a_guardKind, a_guardA, a_guardB, a_clauseFirst, a_nodeKind, a_nodeArg, a_nodePos, a_nodeRow, a_altOf, a_altSide, a_nodeNew, a_after, a_holePos, a_holeType, a_holeOwner, a_holeSide, a_clauseRow, a_clauseNodes, a_clauseTests, a_testHead, a_clauseBind, a_litCount, a_lits, a_freshInt, a_stateMask, a_stateOpen, a_statePos, a_stateNext, a_child, a_bucketHead, a_pin, a_marked, a_queue, a_val, a_valType, a_bound) := by
  have R : i_Rel (k + 4) (nI tt, nI rl, nI rt, ph, nI cc, nI rc, ro, nI nc, nI hlc, nI clc, nI sc, solM, livM, misF, nI qt, lr, a_ctorType, a_ctorFirst, a_ctorSecond, a_typeSize, a_typeCtors, a_rowFirst, a_rowSize, a_guardKind, a_guardA, a_guardB, a_clauseFirst, a_nodeKind, a_nodeArg, a_nodePos, a_nodeRow, a_altOf, a_altSide, a_nodeNew, a_after, a_holePos, a_holeType, a_holeOwner, a_holeSide, a_clauseRow, a_clauseNodes, a_clauseTests, a_testHead, a_clauseBind, a_litCount, a_lits, a_freshInt, a_stateMask, a_stateOpen, a_statePos, a_stateNext, a_child, a_bucketHead, a_pin, a_marked, a_queue, a_val, a_valType, a_bound) (nI tt, nI rl, nI rt, ph, nI cc, nI nc, nI rc, nI hlc, lr, ro, a_ctorType, a_ctorFirst, a_ctorSecond, a_nodeKind, a_nodeArg, a_nodePos, a_nodeRow, b_nUp, a_rowFirst, b_rowSize, a_guardKind, a_guardA, a_guardB, b_holePos, b_holeType, b_holeUp, b_head, b_headType, b_binds, b_look, b_lookType, b_bound, b_hit, b_part) := zz_in hA
  obtain ⟨fr, sz, cf, hT, hN, hO, hV, hB, hG, h0, h1⟩ := hA
  have hT1 := hT.1
  have hrl := hN.1
  have hnc := hN.2.1
  by_cases c0 : ph = 0
  · exact br_t c0 (br_t c0 ⟨rfl, R⟩)
  have fin : ∀ rc' nc' BD BD', (∀ v, v < 4 → BD v = 0) → (∀ v, v < 4 → BD' v = 0) → rc' ≤ rc → nc' = fr rc' → nc' ≤ nc → i_Rel (k + 4) (nI tt, nI rl, nI rt, 1, nI cc, nI rc', 0, nI nc', 0, nI (cf rc'), nI sc, solM, livM, misF, nI qt, -11, a_ctorType, a_ctorFirst, a_ctorSecond, a_typeSize, a_typeCtors, a_rowFirst, a_rowSize, a_guardKind, a_guardA, a_guardB, a_clauseFirst, a_nodeKind, a_nodeArg, a_nodePos, a_nodeRow, a_altOf, a_altSide, a_nodeNew, a_after, a_holePos, a_holeType, a_holeOwner, a_holeSide, a_clauseRow, a_clauseNodes, a_clauseTests, a_testHead, a_clauseBind, a_litCount, a_lits, a_freshInt, a_stateMask, a_stateOpen, a_statePos, a_stateNext, a_child, a_bucketHead, a_pin, a_marked, a_queue, a_val, a_valType, BD) (nI tt, nI rl, nI rt, 1, nI cc, nI nc', nI rc', 0, -11, 0, a_ctorType, a_ctorFirst, a_ctorSecond, a_nodeKind, a_nodeArg, a_nodePos, a_nodeRow, b_nUp, a_rowFirst, b_rowSize, a_guardKind, a_guardA, a_guardB, b_holePos, b_holeType, b_holeUp, b_head, b_headType, BD', b_look, b_lookType, b_bound, b_hit, b_part) := by
    intro rc' nc' BD BD' hBD hBD' e1 e2 e3
    exact zz_in (hlc := 0) ⟨fr, sz, cf, rl_Tph hT c0 (Or.inl rfl), rl_drop hN e1 e2 e3, Or.inl ⟨rfl, e2, rfl⟩, rl_Vph hV (by decide), fun v hv => by rw [hBD v hv, hBD' v hv], fun z => absurd z (by decide), fun z => absurd z (by decide), fun z => absurd rfl z⟩
  by_cases c1 : ro = 0
  · refine br_f c0 (br_t c1 ?_)
    rcases Nat.eq_zero_or_pos rc with z | z
    · subst z; exact br_t rfl (br_f c0 (br_t c1 (br_t rfl ⟨rfl, R⟩)))
    · obtain ⟨rc', rfl⟩ : ∃ r, rc = r + 1 := ⟨rc - 1, by omega⟩
      refine br_f (nI_ne0 (by omega) (by omega)) (br_t c1 (nm_r (nI_pred rc') ?_))
      have er : (nI rc').toNatClampNeg = rc' := nI_clamp (by omega)
      have wr : vp_in (nI rc') 8 := vp_in_nI (by omega) (by omega)
      obtain ⟨q1, q2, q3, q4, q5, q6, q7, q8, q9, _⟩ := hN.2.2.2.2.1 rc' (by omega)
      refine ⟨wr, nm_r (e' := nI (cf rc')) (by rw [er]; exact q9) ⟨wr, nm_r (e' := nI (fr rc')) (by rw [er]; exact q2) (xw_forget (fun BD hBD => ?_))⟩⟩
      refine br_f c0 (br_t c1 (br_f (nI_ne0 (by omega) (by omega)) (br_t c1 (nm_r (nI_pred rc') ⟨wr, nm_r (e' := nI (fr rc')) (by rw [er]; exact q2) (yw_forget (fun BD' hBD' => ⟨rfl, ?_⟩))⟩))))
      exact fin rc' (fr rc') BD BD' hBD hBD' (by omega) rfl (rl_frle hN rc' (by omega))
  · refine br_f c0 (br_f c1 (br_f c1 ?_))
    obtain ⟨o1, o2, o3, _⟩ := hO.resolve_left (fun z => c1 z.1)
    have er : (nI rc).toNatClampNeg = rc := nI_clamp (by omega)
    have wr : vp_in (nI rc) 8 := vp_in_nI (by omega) (by omega)
    refine ⟨wr, nm_r (e' := nI (fr rc)) (by rw [er]; exact o3) (xw_forget (fun BD hBD => ?_))⟩
    refine br_f c0 (br_f c1 (br_f c1 ⟨wr, nm_r (e' := nI (fr rc)) (by rw [er]; exact o3) (yw_forget (fun BD' hBD' => ⟨rfl, ?_⟩))⟩))
    have := fin rc (fr rc) BD BD' hBD hBD' (Nat.le_refl _) rfl (rl_frle hN rc (Nat.le_refl _))
    rw [← hN.2.2.2.2.2.2.1] at this
    exact this
end
end
section
section
variable {tt rl rt cc rc nc hlc clc sc qt : Nat} {ph ro misF lr : Int32} {solM livM : Int64} {a_ctorType a_ctorFirst a_ctorSecond a_typeSize a_typeCtors a_rowFirst a_rowSize a_guardKind a_guardA a_guardB a_clauseFirst a_nodeKind a_nodeArg a_nodePos a_nodeRow a_altOf a_altSide a_nodeNew a_after a_holePos a_holeType a_holeOwner a_holeSide a_clauseRow a_clauseTests a_testHead a_clauseBind a_litCount a_lits a_freshInt a_stateOpen a_statePos a_stateNext a_child a_bucketHead a_pin a_marked a_queue a_val a_valType a_bound : Nat → Int32} {a_clauseNodes a_stateMask : Nat → Int64} {b_nUp b_rowSize b_holePos b_holeType b_holeUp b_head b_headType b_binds b_look b_lookType b_bound b_hit b_part : Nat → Int32}
variable {k : Nat} {fr sz cf : Nat → Nat}
theorem rl_cfle (hN : rl_N rt cc rl rc nc clc a_ctorType a_ctorFirst a_ctorSecond a_nodeKind a_nodeArg a_nodePos a_nodeRow b_nUp a_altOf a_altSide a_nodeNew a_rowFirst a_rowSize b_rowSize a_guardKind a_guardA a_guardB a_clauseFirst a_clauseRow a_clauseNodes a_clauseTests a_testHead a_clauseBind fr sz cf) : ∀ r, r ≤ rc → 5 * cf r ≤ 6 * fr r ∧ cf r ≤ clc := by
  have k1 : ∀ r, r ≤ rc → 5 * cf r ≤ 6 * fr r := by
    intro r
    induction r with
    | zero => intro _; rw [hN.2.2.2.1]; omega
    | succ r ih =>
      intro hr
      have h1 := ih (by omega)
      obtain ⟨q1, _, _, _, _, _, _, _, _, q10, q11, _⟩ := hN.2.2.2.2.1 r (by omega)
      omega
  have k2 : ∀ d r, r + d = rc → cf r ≤ clc := by
    intro d
    induction d with
    | zero => intro r hr; rw [hN.2.2.2.2.2.2.1, show r = rc by omega]; omega
    | succ d ih =>
      intro r hr
      have h1 := ih (r + 1) (by omega)
      obtain ⟨q1, _, _, _, _, _, _, _, _, q10, q11, _⟩ := hN.2.2.2.2.1 r (by omega)
      omega
  exact fun r hr => ⟨k1 r hr, k2 (rc - r) r (by omega)⟩
theorem rl_R_cl {CR T TH CB : Nat → Int32} {ND : Nat → Int64} {fr' sz' cf' : Nat → Nat} {r : Nat} (h : rl_R rt cc a_ctorType a_ctorFirst a_ctorSecond a_nodeKind a_nodeArg a_nodePos a_nodeRow b_nUp a_altOf a_altSide a_rowFirst a_rowSize b_rowSize a_guardKind a_guardA a_guardB a_clauseFirst a_clauseRow a_clauseNodes a_clauseTests a_testHead a_clauseBind fr sz cf r) (h48 : fr (r + 1) ≤ 48) (hcl : cf (r + 1) ≤ clc) (hCR : ∀ j, j < clc → CR j = a_clauseRow j) (hF : xr_fr clc a_clauseNodes ND a_clauseTests T a_testHead TH a_clauseBind CB) (e1 : fr' r = fr r) (e2 : fr' (r + 1) = fr (r + 1)) (e3 : sz' r = sz r) (e4 : cf' r = cf r) (e5 : cf' (r + 1) = cf (r + 1)) :
    rl_R rt cc a_ctorType a_ctorFirst a_ctorSecond a_nodeKind a_nodeArg a_nodePos a_nodeRow b_nUp a_altOf a_altSide a_rowFirst a_rowSize b_rowSize a_guardKind a_guardA a_guardB a_clauseFirst CR ND T TH CB fr' sz' cf' r := by
  obtain ⟨h1, h2, h3, h4, h5, h6, h7, h8, h9, h10, h11, h12, h13⟩ := h
  unfold rl_R
  rw [e1, e2, e3, e4, e5]
  refine ⟨h1, h2, h3, h4, h5, h6, h7, h8, h9, h10, h11, fun c a b => by rw [hCR c (by omega)]; exact h12 c a b, ?_⟩
  exact rf_congr (fun n _ _ => ⟨rfl, rfl, rfl, rfl⟩) (fun c a b => ⟨(hF.1 c (by omega)).1, (hF.1 c (by omega)).2, fun p hp => hF.2.1 _ (by omega), fun v hv => hF.2.2 _ (by omega)⟩) (fun n a b => tr_up _ _ _ h6 n a b) (by omega) (tr_pos h6) h13
theorem vc_endRow (hA : rl_All tt rl rt cc ph a_ctorType a_ctorFirst a_ctorSecond a_typeSize a_typeCtors rc nc clc a_nodeKind a_nodeArg a_nodePos a_nodeRow b_nUp a_altOf a_altSide a_nodeNew a_rowFirst a_rowSize b_rowSize a_guardKind a_guardA a_guardB a_clauseFirst a_clauseRow a_clauseNodes a_clauseTests a_testHead a_clauseBind hlc ro a_holePos a_holeType a_holeOwner a_holeSide b_holePos b_holeType b_holeUp a_valType a_val b_headType b_head sc misF solM livM a_litCount a_lits a_freshInt a_stateMask a_stateOpen a_statePos a_child a_bound b_binds) (v1 v2 v3 : Int32) : wpX_endRow (fun r u' => wpY_endRow (fun r' v' => r' = r ∧ i_Rel (k + 4) u' v') (nI tt, nI rl, nI rt, ph, nI cc, nI nc, nI rc, nI hlc, lr, ro, a_ctorType, a_ctorFirst, a_ctorSecond, a_nodeKind, a_nodeArg, a_nodePos, a_nodeRow, b_nUp, a_rowFirst, b_rowSize, a_guardKind, a_guardA, a_guardB, b_holePos, b_holeType, b_holeUp, b_head, b_headType, b_binds, b_look, b_lookType, b_bound, b_hit, b_part) v1 v2 v3) (nI tt, nI rl, nI rt, ph, nI cc, nI rc, ro, nI nc, nI hlc, nI clc, nI sc, solM, livM, misF, nI qt, lr, a_ctorType, a_ctorFirst, a_ctorSecond, a_typeSize, a_typeCtors, a_rowFirst, a_rowSize, a_guardKind, a_guardA, a_guardB, a_clauseFirst, a_nodeKind, a_nodeArg, a_nodePos, a_nodeRow, a_altOf, a_altSide, a_nodeNew, a_after, a_holePos, a_holeType, a_holeOwner, a_holeSide, a_clauseRow, a_clauseNodes, a_clauseTests, a_testHead, a_clauseBind, a_litCount, a_lits, a_freshInt, a_stateMask, a_stateOpen, a_statePos, a_stateNext, a_child, a_bucketHead, a_pin, a_marked, a_queue, a_val, a_valType, a_bound) v1 v2 v3 := by
  have R : i_Rel (k + 4) (nI tt, nI rl, nI rt, ph, nI cc, nI rc, ro, nI nc, nI hlc, nI clc, nI sc, solM, livM, misF, nI qt, lr, a_ctorType, a_ctorFirst, a_ctorSecond, a_typeSize, a_typeCtors, a_rowFirst, a_rowSize, a_guardKind, a_guardA, a_guardB, a_clauseFirst, a_nodeKind, a_nodeArg, a_nodePos, a_nodeRow, a_altOf, a_altSide, a_nodeNew, a_after, a_holePos, a_holeType, a_holeOwner, a_holeSide, a_clauseRow, a_clauseNodes, a_clauseTests, a_testHead, a_clauseBind, a_litCount, a_lits, a_freshInt, a_stateMask, a_stateOpen, a_statePos, a_stateNext, a_child, a_bucketHead, a_pin, a_marked, a_queue, a_val, a_valType, a_bound) (nI tt, nI rl, nI rt, ph, nI cc, nI nc, nI rc, nI hlc, lr, ro, a_ctorType, a_ctorFirst, a_ctorSecond, a_nodeKind, a_nodeArg, a_nodePos, a_nodeRow, b_nUp, a_rowFirst, b_rowSize, a_guardKind, a_guardA, a_guardB, b_holePos, b_holeType, b_holeUp, b_head, b_headType, b_binds, b_look, b_lookType, b_bound, b_hit, b_part) := zz_in hA
  obtain ⟨fr, sz, cf, hT, hN, hO, hV, hB, hG, h0, h1⟩ := hA
  have hT1 := hT.1
  have hrl := hN.1
  have hnc := hN.2.1
  by_cases c0 : ro = 0
  · refine br_t c0 (br_t c0 ?_)
    unfold wY_endRow_14
    exact br_t c0 ⟨rfl, R⟩
  by_cases hz : ¬ hlc = 0
  · have hh : hlc ≤ 48 := by
      obtain ⟨_, _, _, _, _, o6, _⟩ := hO.resolve_left (fun z => c0 z.1); omega
    have hn : ¬ nI hlc ≤ 0 := nI_nle (by omega) (by omega)
    refine br_f c0 (br_f hn (br_f c0 (br_f hn ?_)))
    unfold wY_endRow_14
    exact br_f c0 ⟨rfl, R⟩
  have hz := Classical.not_not.mp hz
  obtain ⟨o1, o2, o3, o4, o5, o6, o7, hs, o8, o9, o10, o11⟩ := hO.resolve_left (fun z => c0 z.1)
  have hsn : hs = [] := List.length_eq_zero_iff.mp (o8.trans hz)
  subst hsn
  have l0 : nI hlc ≤ 0 := by rw [hz]; decide
  by_cases c1 : v1 < 0
  · exact br_f c0 (br_t l0 (br_t c1 (br_f c0 (br_t l0 (br_t c1 ⟨rfl, R⟩)))))
  by_cases c2 : ¬ v1 ≤ 2
  · exact br_f c0 (br_t l0 (br_f c1 (br_f c2 (br_f c0 (br_t l0 (br_f c1 (br_f c2 ⟨rfl, R⟩)))))))
  have c2 := Classical.not_not.mp c2
  obtain ⟨g, g2, rfl⟩ := nI_of2 (M := 2) (n := 2) (by decide) c1 c2
  have erc : (nI rc).toNatClampNeg = rc := nI_clamp (by omega)
  have wr : vp_in (nI rc) 8 := vp_in_nI (by omega) (by omega)
  have hfr := rl_frle hN rc (Nat.le_refl _)
  have hcf := rl_cfle hN
  have hclc := hN.2.2.2.2.2.2.1
  -- the row is closed
  have hT3 : xo_T cc a_ctorType := fun c hc => by obtain ⟨q, q1, q2, q3⟩ := hT.2.2.1 c hc; exact ⟨q, q1, by omega, q3⟩
  have done : ∀ (A B : Int32) (kk : Nat) (ch : Nat → Nat → Bool) (AF CR : Nat → Int32) (ND : Nat → Int64) (T TH CB : Nat → Int32), (∃ a, a < 4 ∧ A = nI a) → (nI g = 2 → ∃ b, b < 4 ∧ B = nI b) → lc_Seq a_nodeKind b_nUp a_altSide (fr rc) (fr rc + (nc - fr rc)) kk ch (fun i n => bi_L (ND (clc + i)) n = true) → kk ≤ lc_G (nc - fr rc) → xr_Cs a_nodeKind a_nodeArg a_nodePos (fr rc) (fr rc + (nc - fr rc)) clc rc kk CR ND T TH CB → (∀ j, j < clc → CR j = a_clauseRow j) → xr_fr clc a_clauseNodes ND a_clauseTests T a_testHead TH a_clauseBind CB →
      i_Rel (k + 4) (nI tt, nI rl, nI rt, ph, nI cc, nI (rc + 1), 0, nI nc, nI hlc, nI (clc + kk), nI sc, solM, livM, misF, nI qt, lr, a_ctorType, a_ctorFirst, a_ctorSecond, a_typeSize, a_typeCtors, a_rowFirst, upd a_rowSize rc (nI (nc - fr rc)), upd a_guardKind rc (nI g), upd a_guardA rc A, upd a_guardB rc B, upd a_clauseFirst rc (nI clc), a_nodeKind, a_nodeArg, a_nodePos, a_nodeRow, a_altOf, a_altSide, a_nodeNew, AF, a_holePos, a_holeType, a_holeOwner, a_holeSide, CR, ND, T, TH, CB, a_litCount, a_lits, a_freshInt, a_stateMask, a_stateOpen, a_statePos, a_stateNext, a_child, a_bucketHead, a_pin, a_marked, a_queue, a_val, a_valType, a_bound) (nI tt, nI rl, nI rt, ph, nI cc, nI nc, nI (rc + 1), nI hlc, lr, 0, a_ctorType, a_ctorFirst, a_ctorSecond, a_nodeKind, a_nodeArg, a_nodePos, a_nodeRow, b_nUp, a_rowFirst, b_rowSize, upd a_guardKind rc (nI g), upd a_guardA rc A, upd a_guardB rc B, b_holePos, b_holeType, b_holeUp, b_head, b_headType, b_binds, b_look, b_lookType, b_bound, b_hit, b_part) := by
    intro A B kk ch AF CR ND T TH CB hAa hBb hS hk hCs hCR hFr
    have hf := rf_of (rt := rt) (C1 := a_ctorFirst) (C2 := a_ctorSecond) (r := rc) (by omega) (by omega) hT3 o9 (by omega) hS hCs
    have hG6 := lc_G6 (nc - fr rc) (by omega)
    have hfd : fr rc + (nc - fr rc) = nc := by omega
    have k0 : 0 < kk := hS.2.2.2.1
    refine zz_in ⟨fun r => if r = rc + 1 then nc else fr r, fun r => if r = rc then nc - fr rc else sz r, fun r => if r = rc + 1 then clc + kk else cf r, hT, ⟨by omega, hnc, ?_, ?_, fun r hr => ?_, ?_, ?_, hN.2.2.2.2.2.2.2.1, hN.2.2.2.2.2.2.2.2.1, hN.2.2.2.2.2.2.2.2.2⟩, Or.inl ⟨rfl, ?_, hz⟩, hV, hB, fun z => ?_, fun z => ?_, fun z => absurd rfl z⟩
    · show (if 0 = rc + 1 then nc else fr 0) = 0
      rw [if_neg (by omega)]; exact hN.2.2.1
    · show (if 0 = rc + 1 then clc + kk else cf 0) = 0
      rw [if_neg (by omega)]; exact hN.2.2.2.1
    · by_cases q : r = rc
      · subst q
        unfold rl_R
        simp only [if_true, if_neg (show ¬ r = r + 1 by omega)]
        rw [hclc] at *
        refine ⟨by omega, o3, pk_us, o4, by omega, o9, fun n a b => o5 n a (by omega), ⟨?_, ?_, ?_⟩, pk_us, by omega, by omega, fun c a b => ?_, hf⟩
        · rw [pk_us]
          have : g = 0 ∨ g = 1 ∨ g = 2 := by omega
          rcases this with rfl | rfl | rfl
          · exact Or.inl rfl
          · exact Or.inr (Or.inl rfl)
          · exact Or.inr (Or.inr rfl)
        · rw [pk_us]; exact hAa
        · rw [pk_us, pk_us]; exact hBb
        · have := (hCs (c - cf r) (by omega)).1
          rw [show cf r + (c - cf r) = c by omega] at this
          exact this
      · have hr' : r < rc := by omega
        refine rl_R_cl (rl_R_row (hN.2.2.2.2.1 r hr') rfl (pk_un q) rfl (pk_un q) (pk_un q) (pk_un q) (pk_un q)) (by have := rl_frle hN (r + 1) (by omega); omega) (hcf (r + 1) (by omega)).2 hCR hFr (if_neg (by omega)) (if_neg (by omega)) (if_neg q) (if_neg (by omega)) (if_neg (by omega))
    · show (if rc + 1 = rc + 1 then nc else fr (rc + 1)) ≤ nc
      rw [if_pos rfl]; omega
    · show clc + kk = if rc + 1 = rc + 1 then clc + kk else _
      rw [if_pos rfl]
    · show nc = if rc + 1 = rc + 1 then nc else _
      rw [if_pos rfl]
    · have := h1 (by rw [o1]; decide); rw [this] at z; exact absurd z (by decide)
    · have := h1 (by rw [o1]; decide); rw [this] at z; exact absurd z (by decide)
  have hwalk : ∀ (A B : Int32), (∃ a, a < 4 ∧ A = nI a) → (nI g = 2 → ∃ b, b < 4 ∧ B = nI b) → (∀ post : Int32 → SY → Prop, post (nI rc) (nI tt, nI rl, nI rt, ph, nI cc, nI nc, nI (rc + 1), nI hlc, lr, 0, a_ctorType, a_ctorFirst, a_ctorSecond, a_nodeKind, a_nodeArg, a_nodePos, a_nodeRow, b_nUp, a_rowFirst, b_rowSize, upd a_guardKind rc (nI g), upd a_guardA rc A, upd a_guardB rc B, b_holePos, b_holeType, b_holeUp, b_head, b_headType, b_binds, b_look, b_lookType, b_bound, b_hit, b_part) → wpY_endRow post (nI tt, nI rl, nI rt, ph, nI cc, nI nc, nI rc, nI hlc, lr, ro, a_ctorType, a_ctorFirst, a_ctorSecond, a_nodeKind, a_nodeArg, a_nodePos, a_nodeRow, b_nUp, a_rowFirst, b_rowSize, a_guardKind, a_guardA, a_guardB, b_holePos, b_holeType, b_holeUp, b_head, b_headType, b_binds, b_look, b_lookType, b_bound, b_hit, b_part) (nI g) v2 v3) →
      wX_endRow_110 (fun r u' => wpY_endRow (fun r' v' => r' = r ∧ i_Rel (k + 4) u' v') (nI tt, nI rl, nI rt, ph, nI cc, nI nc, nI rc, nI hlc, lr, ro, a_ctorType, a_ctorFirst, a_ctorSecond, a_nodeKind, a_nodeArg, a_nodePos, a_nodeRow, b_nUp, a_rowFirst, b_rowSize, a_guardKind, a_guardA, a_guardB, b_holePos, b_holeType, b_holeUp, b_head, b_headType, b_binds, b_look, b_lookType, b_bound, b_hit, b_part) (nI g) v2 v3) (nI rc) B (nI rc) (nI tt) (nI rl) (nI rt) ph (nI cc) (nI rc) ro (nI nc) (nI hlc) (nI clc) (nI sc) solM livM misF (nI qt) lr a_ctorType a_ctorFirst a_ctorSecond a_typeSize a_typeCtors a_rowFirst a_rowSize (upd a_guardKind rc (nI g)) (upd a_guardA rc A) a_guardB a_clauseFirst a_nodeKind a_nodeArg a_nodePos a_nodeRow a_altOf a_altSide a_nodeNew a_after a_holePos a_holeType a_holeOwner a_holeSide a_clauseRow a_clauseNodes a_clauseTests a_testHead a_clauseBind a_litCount a_lits a_freshInt a_stateMask a_stateOpen a_statePos a_stateNext a_child a_bucketHead a_pin a_marked a_queue a_val a_valType a_bound := by
    intro A B hAa hBb hY
    unfold wX_endRow_110
    rw [erc, o3, pk_sub hfr]
    refine ⟨wr, nm_e ⟨wr, wr, nm_e ⟨wr, nm_e (nm_r (nI_1 rc) ?_)⟩⟩⟩
    refine xw_expandRow (U := b_nUp) (f := fr rc) (d := nc - fr rc) (p0 := 1) (t0 := nI rt) (by omega) (by omega) o3 pk_us o9 (by omega) (by omega) (by rw [hclc]; exact (hcf rc (Nat.le_refl _)).1) (by omega) (by omega) (fun kk ch AF CR ND T TH CB hS hk hCs hCR hFr => ?_)
    exact hY _ ⟨rfl, done A B kk ch AF CR ND T TH CB hAa hBb hS hk hCs hCR hFr⟩
  have ytop : ∀ post : Int32 → SY → Prop, (nI g = 0 ∨ (¬ v2 < 0 ∧ v2 < 4)) → wY_endRow_57 post (nI g) v2 v3 (nI tt) (nI rl) (nI rt) ph (nI cc) (nI nc) (nI rc) (nI hlc) lr ro a_ctorType a_ctorFirst a_ctorSecond a_nodeKind a_nodeArg a_nodePos a_nodeRow b_nUp a_rowFirst b_rowSize a_guardKind a_guardA a_guardB b_holePos b_holeType b_holeUp b_head b_headType b_binds b_look b_lookType b_bound b_hit b_part → wpY_endRow post (nI tt, nI rl, nI rt, ph, nI cc, nI nc, nI rc, nI hlc, lr, ro, a_ctorType, a_ctorFirst, a_ctorSecond, a_nodeKind, a_nodeArg, a_nodePos, a_nodeRow, b_nUp, a_rowFirst, b_rowSize, a_guardKind, a_guardA, a_guardB, b_holePos, b_holeType, b_holeUp, b_head, b_headType, b_binds, b_look, b_lookType, b_bound, b_hit, b_part) (nI g) v2 v3 := by
    intro post hc hp
    refine br_f c0 (br_t l0 (br_f c1 (br_t c2 (br_c (fun z => hp) (fun z => ?_)))))
    obtain ⟨x, y⟩ := hc.resolve_left z
    exact br_f x (br_t y hp)
  have y74 : ∀ (post : Int32 → SY → Prop), post (nI rc) (nI tt, nI rl, nI rt, ph, nI cc, nI nc, nI (rc + 1), nI hlc, lr, 0, a_ctorType, a_ctorFirst, a_ctorSecond, a_nodeKind, a_nodeArg, a_nodePos, a_nodeRow, b_nUp, a_rowFirst, b_rowSize, upd a_guardKind rc (nI g), upd a_guardA rc (if nI g = 0 then 0 else v2), upd a_guardB rc (if nI g = 0 then 0 else v3), b_holePos, b_holeType, b_holeUp, b_head, b_headType, b_binds, b_look, b_lookType, b_bound, b_hit, b_part) → wY_endRow_74 post (nI g) v2 v3 (nI tt) (nI rl) (nI rt) ph (nI cc) (nI nc) (nI rc) (nI hlc) lr ro a_ctorType a_ctorFirst a_ctorSecond a_nodeKind a_nodeArg a_nodePos a_nodeRow b_nUp a_rowFirst b_rowSize a_guardKind a_guardA a_guardB b_holePos b_holeType b_holeUp b_head b_headType b_binds b_look b_lookType b_bound b_hit b_part := by
    intro post hp
    unfold wY_endRow_74
    rw [erc]
    refine ⟨wr, nm_e (br_c (fun z => ?_) (fun z => ?_))⟩
    · rw [if_pos z, if_pos z] at hp
      unfold wY_endRow_101
      rw [erc]
      refine ⟨wr, nm_e (br_t z ?_)⟩
      unfold wY_endRow_119
      rw [erc]
      exact ⟨wr, nm_e (nm_r (nI_1 rc) hp)⟩
    · rw [if_neg z, if_neg z] at hp
      unfold wY_endRow_101
      rw [erc]
      refine ⟨wr, nm_e (br_f z ?_)⟩
      unfold wY_endRow_119
      rw [erc]
      exact ⟨wr, nm_e (nm_r (nI_1 rc) hp)⟩
  have x65 : (nI g = 0 ∨ ∃ a, a < 4 ∧ v2 = nI a) → (nI g = 2 → ∃ b, b < 4 ∧ v3 = nI b) → (∀ post : Int32 → SY → Prop, wY_endRow_74 post (nI g) v2 v3 (nI tt) (nI rl) (nI rt) ph (nI cc) (nI nc) (nI rc) (nI hlc) lr ro a_ctorType a_ctorFirst a_ctorSecond a_nodeKind a_nodeArg a_nodePos a_nodeRow b_nUp a_rowFirst b_rowSize a_guardKind a_guardA a_guardB b_holePos b_holeType b_holeUp b_head b_headType b_binds b_look b_lookType b_bound b_hit b_part → wpY_endRow post (nI tt, nI rl, nI rt, ph, nI cc, nI nc, nI rc, nI hlc, lr, ro, a_ctorType, a_ctorFirst, a_ctorSecond, a_nodeKind, a_nodeArg, a_nodePos, a_nodeRow, b_nUp, a_rowFirst, b_rowSize, a_guardKind, a_guardA, a_guardB, b_holePos, b_holeType, b_holeUp, b_head, b_headType, b_binds, b_look, b_lookType, b_bound, b_hit, b_part) (nI g) v2 v3) → wX_endRow_65 (fun r u' => wpY_endRow (fun r' v' => r' = r ∧ i_Rel (k + 4) u' v') (nI tt, nI rl, nI rt, ph, nI cc, nI nc, nI rc, nI hlc, lr, ro, a_ctorType, a_ctorFirst, a_ctorSecond, a_nodeKind, a_nodeArg, a_nodePos, a_nodeRow, b_nUp, a_rowFirst, b_rowSize, a_guardKind, a_guardA, a_guardB, b_holePos, b_holeType, b_holeUp, b_head, b_headType, b_binds, b_look, b_lookType, b_bound, b_hit, b_part) (nI g) v2 v3) (nI g) v2 v3 (nI tt) (nI rl) (nI rt) ph (nI cc) (nI rc) ro (nI nc) (nI hlc) (nI clc) (nI sc) solM livM misF (nI qt) lr a_ctorType a_ctorFirst a_ctorSecond a_typeSize a_typeCtors a_rowFirst a_rowSize a_guardKind a_guardA a_guardB a_clauseFirst a_nodeKind a_nodeArg a_nodePos a_nodeRow a_altOf a_altSide a_nodeNew a_after a_holePos a_holeType a_holeOwner a_holeSide a_clauseRow a_clauseNodes a_clauseTests a_testHead a_clauseBind a_litCount a_lits a_freshInt a_stateMask a_stateOpen a_statePos a_stateNext a_child a_bucketHead a_pin a_marked a_queue a_val a_valType a_bound := by
    intro ha hb hY
    unfold wX_endRow_65
    rw [erc]
    refine ⟨wr, nm_e (br_c (fun z => ?_) (fun z => ?_))⟩
    · unfold wX_endRow_94
      rw [erc]
      refine ⟨wr, nm_e (br_t z ?_)⟩
      refine hwalk 0 0 ⟨0, by omega, rfl⟩ (fun y => by rw [y] at z; exact absurd z (by decide)) (fun post hp => hY post (y74 post ?_))
      rw [if_pos z, if_pos z]; exact hp
    · unfold wX_endRow_94
      rw [erc]
      refine ⟨wr, nm_e (br_f z ?_)⟩
      refine hwalk v2 v3 (ha.resolve_left z) hb (fun post hp => hY post (y74 post ?_))
      rw [if_neg z, if_neg z]; exact hp
  have x48 : (nI g = 0 ∨ ∃ a, a < 4 ∧ v2 = nI a) → (nI g = 0 ∨ (¬ v2 < 0 ∧ v2 < 4)) → wX_endRow_48 (fun r u' => wpY_endRow (fun r' v' => r' = r ∧ i_Rel (k + 4) u' v') (nI tt, nI rl, nI rt, ph, nI cc, nI nc, nI rc, nI hlc, lr, ro, a_ctorType, a_ctorFirst, a_ctorSecond, a_nodeKind, a_nodeArg, a_nodePos, a_nodeRow, b_nUp, a_rowFirst, b_rowSize, a_guardKind, a_guardA, a_guardB, b_holePos, b_holeType, b_holeUp, b_head, b_headType, b_binds, b_look, b_lookType, b_bound, b_hit, b_part) (nI g) v2 v3) (nI g) v2 v3 (nI tt) (nI rl) (nI rt) ph (nI cc) (nI rc) ro (nI nc) (nI hlc) (nI clc) (nI sc) solM livM misF (nI qt) lr a_ctorType a_ctorFirst a_ctorSecond a_typeSize a_typeCtors a_rowFirst a_rowSize a_guardKind a_guardA a_guardB a_clauseFirst a_nodeKind a_nodeArg a_nodePos a_nodeRow a_altOf a_altSide a_nodeNew a_after a_holePos a_holeType a_holeOwner a_holeSide a_clauseRow a_clauseNodes a_clauseTests a_testHead a_clauseBind a_litCount a_lits a_freshInt a_stateMask a_stateOpen a_statePos a_stateNext a_child a_bucketHead a_pin a_marked a_queue a_val a_valType a_bound := by
    intro ha hc
    unfold wX_endRow_48
    refine br_c (fun z => br_c (fun y => ?_) (fun y => br_c (fun x => ?_) (fun x => ?_))) (fun z => ?_)
    · refine ytop _ hc ?_
      unfold wY_endRow_57
      exact br_t z (br_t y ⟨rfl, R⟩)
    · refine x65 ha (fun _ => ?_) (fun post hp => ytop _ hc ?_)
      · obtain ⟨b, b1, rfl⟩ := nI_of y
        exact ⟨b, (nI_ltI (a := b) (b := 4) b1 (by omega)).mp x, rfl⟩
      · unfold wY_endRow_57
        exact br_t z (br_f y (br_t x hp))
    · refine ytop _ hc ?_
      unfold wY_endRow_57
      exact br_t z (br_f y (br_f x ⟨rfl, R⟩))
    · refine x65 ha (fun y => absurd y z) (fun post hp => ytop _ hc ?_)
      unfold wY_endRow_57
      exact br_f z hp
  refine br_f c0 (br_t l0 (br_f c1 (br_t c2 (br_c (fun z => x48 (Or.inl z) (Or.inl z)) (fun z => br_c (fun y => ?_) (fun y => br_c (fun x => ?_) (fun x => ?_)))))))
  · exact br_f c0 (br_t l0 (br_f c1 (br_t c2 (br_f z (br_t y ⟨rfl, R⟩)))))
  · refine x48 (Or.inr ?_) (Or.inr ⟨y, x⟩)
    obtain ⟨b, b1, rfl⟩ := nI_of y
    exact ⟨b, (nI_ltI (a := b) (b := 4) b1 (by omega)).mp x, rfl⟩
  · exact br_f c0 (br_t l0 (br_f c1 (br_t c2 (br_f z (br_f y (br_f x ⟨rfl, R⟩))))))
end
end
section
def rl_RM (T TH : Nat → Int32) (cf : Nat → Nat) (q : Nat) (v : Nat → Int32) : Prop := ∃ c, cf q ≤ c ∧ c < cf (q + 1) ∧ gh_Mt (xc_t T) (xc_h TH) v c
def rl_PP (T TH : Nat → Int32) (ND : Nat → Int64) (cf : Nat → Nat) (q : Nat) (v : Nat → Int32) (n : Nat) : Prop := ∃ c, cf q ≤ c ∧ c < cf (q + 1) ∧ gh_Mt (xc_t T) (xc_h TH) v c ∧ (∀ c', cf q ≤ c' → c' < c → ¬ gh_Mt (xc_t T) (xc_h TH) v c') ∧ bi_L (ND c) n = true
section
variable {tt rl rt cc rc nc hlc clc sc qt : Nat} {ph ro misF lr : Int32} {solM livM : Int64} {a_ctorType a_ctorFirst a_ctorSecond a_typeSize a_typeCtors a_rowFirst a_rowSize a_guardKind a_guardA a_guardB a_clauseFirst a_nodeKind a_nodeArg a_nodePos a_nodeRow a_altOf a_altSide a_nodeNew a_after a_holePos a_holeType a_holeOwner a_holeSide a_clauseRow a_clauseTests a_testHead a_clauseBind a_litCount a_lits a_freshInt a_stateOpen a_statePos a_stateNext a_child a_bucketHead a_pin a_marked a_queue a_val a_valType a_bound : Nat → Int32} {a_clauseNodes a_stateMask : Nat → Int64} {b_nUp b_rowSize b_holePos b_holeType b_holeUp b_head b_headType b_binds b_look b_lookType b_bound b_hit b_part : Nat → Int32}
variable {k : Nat} {fr sz cf : Nat → Nat}
theorem rl_clc (hN : rl_N rt cc rl rc nc clc a_ctorType a_ctorFirst a_ctorSecond a_nodeKind a_nodeArg a_nodePos a_nodeRow b_nUp a_altOf a_altSide a_nodeNew a_rowFirst a_rowSize b_rowSize a_guardKind a_guardA a_guardB a_clauseFirst a_clauseRow a_clauseNodes a_clauseTests a_testHead a_clauseBind fr sz cf) : clc ≤ 57 := by
  have h1 := (rl_cfle hN rc (Nat.le_refl _)).1
  have h2 := rl_frle hN rc (Nat.le_refl _)
  have h3 := hN.2.1
  have h4 := hN.2.2.2.2.2.2.1
  omega
theorem rl_rowof (hN : rl_N rt cc rl rc nc clc a_ctorType a_ctorFirst a_ctorSecond a_nodeKind a_nodeArg a_nodePos a_nodeRow b_nUp a_altOf a_altSide a_nodeNew a_rowFirst a_rowSize b_rowSize a_guardKind a_guardA a_guardB a_clauseFirst a_clauseRow a_clauseNodes a_clauseTests a_testHead a_clauseBind fr sz cf) {c : Nat} (hc : c < clc) : ∃ r, r < rc ∧ cf r ≤ c ∧ c < cf (r + 1) := by
  have key : ∀ r, r ≤ rc → c < cf r → ∃ q, q < r ∧ cf q ≤ c ∧ c < cf (q + 1) := by
    intro r
    induction r with
    | zero => intro _ h; rw [hN.2.2.2.1] at h; omega
    | succ r ih =>
      intro hr h
      by_cases z : c < cf r
      · obtain ⟨q, q1, q2⟩ := ih (by omega) z; exact ⟨q, by omega, q2⟩
      · exact ⟨r, by omega, by omega, h⟩
  exact key rc (Nat.le_refl _) (by rw [← hN.2.2.2.2.2.2.1]; exact hc)
theorem rl_cfm (hN : rl_N rt cc rl rc nc clc a_ctorType a_ctorFirst a_ctorSecond a_nodeKind a_nodeArg a_nodePos a_nodeRow b_nUp a_altOf a_altSide a_nodeNew a_rowFirst a_rowSize b_rowSize a_guardKind a_guardA a_guardB a_clauseFirst a_clauseRow a_clauseNodes a_clauseTests a_testHead a_clauseBind fr sz cf) : ∀ d r, r + d ≤ rc → cf r ≤ cf (r + d) := by
  intro d
  induction d with
  | zero => intro r _; exact Nat.le_refl _
  | succ d ih =>
    intro r h
    have h1 := ih r (by omega)
    obtain ⟨_, _, _, _, _, _, _, _, _, q10, _⟩ := hN.2.2.2.2.1 (r + d) (by omega)
    exact Nat.le_trans h1 q10
theorem rl_frm (hN : rl_N rt cc rl rc nc clc a_ctorType a_ctorFirst a_ctorSecond a_nodeKind a_nodeArg a_nodePos a_nodeRow b_nUp a_altOf a_altSide a_nodeNew a_rowFirst a_rowSize b_rowSize a_guardKind a_guardA a_guardB a_clauseFirst a_clauseRow a_clauseNodes a_clauseTests a_testHead a_clauseBind fr sz cf) : ∀ d r, r + d ≤ rc → fr r ≤ fr (r + d) := by
  intro d
  induction d with
  | zero => intro r _; exact Nat.le_refl _
  | succ d ih =>
    intro r h
    have h1 := ih r (by omega)
    obtain ⟨q1, _⟩ := hN.2.2.2.2.1 (r + d) (by omega)
    have : r + (d + 1) = r + d + 1 := by omega
    rw [this]; omega
theorem rl_row1 (hN : rl_N rt cc rl rc nc clc a_ctorType a_ctorFirst a_ctorSecond a_nodeKind a_nodeArg a_nodePos a_nodeRow b_nUp a_altOf a_altSide a_nodeNew a_rowFirst a_rowSize b_rowSize a_guardKind a_guardA a_guardB a_clauseFirst a_clauseRow a_clauseNodes a_clauseTests a_testHead a_clauseBind fr sz cf) {c r r' : Nat} (hr : r < rc) (h1 : cf r ≤ c) (h2 : c < cf (r + 1)) (hr' : r' < rc) (h3 : cf r' ≤ c) (h4 : c < cf (r' + 1)) : r = r' := by
  rcases Nat.lt_trichotomy r r' with z | z | z
  · have := rl_cfm hN (r' - (r + 1)) (r + 1) (by omega)
    rw [show r + 1 + (r' - (r + 1)) = r' by omega] at this; omega
  · exact z
  · have := rl_cfm hN (r - (r' + 1)) (r' + 1) (by omega)
    rw [show r' + 1 + (r - (r' + 1)) = r by omega] at this; omega
theorem rl_xr (hT : rl_T tt rl rt cc ph a_ctorType a_ctorFirst a_ctorSecond a_typeSize a_typeCtors) (hN : rl_N rt cc rl rc nc clc a_ctorType a_ctorFirst a_ctorSecond a_nodeKind a_nodeArg a_nodePos a_nodeRow b_nUp a_altOf a_altSide a_nodeNew a_rowFirst a_rowSize b_rowSize a_guardKind a_guardA a_guardB a_clauseFirst a_clauseRow a_clauseNodes a_clauseTests a_testHead a_clauseBind fr sz cf) {c r : Nat} (hr : r < rc) (h1 : cf r ≤ c) (h2 : c < cf (r + 1)) : a_clauseRow c = nI r ∧ xc_r a_clauseRow c = r ∧ xc_s a_clauseRow a_guardKind c = decide (a_guardKind r = 0) ∧ c < clc := by
  obtain ⟨_, _, _, _, _, _, _, _, _, _, _, q12, _⟩ := hN.2.2.2.2.1 r hr
  have e := q12 c h1 h2
  have hT1 := hT.1
  have hrl := hN.1
  have hlt := (rl_cfle hN (r + 1) (by omega)).2
  refine ⟨e, ?_, ?_, by omega⟩
  · unfold xc_r; rw [e]; exact nI_clamp (by omega)
  · unfold xc_s; rw [e, nI_clamp (by omega)]
theorem rl_xok (hT : rl_T tt rl rt cc ph a_ctorType a_ctorFirst a_ctorSecond a_typeSize a_typeCtors) (hN : rl_N rt cc rl rc nc clc a_ctorType a_ctorFirst a_ctorSecond a_nodeKind a_nodeArg a_nodePos a_nodeRow b_nUp a_altOf a_altSide a_nodeNew a_rowFirst a_rowSize b_rowSize a_guardKind a_guardA a_guardB a_clauseFirst a_clauseRow a_clauseNodes a_clauseTests a_testHead a_clauseBind fr sz cf) : xc_ok a_clauseRow clc := by
  have hT1 := hT.1
  have hrl := hN.1
  refine ⟨fun c hc => ?_, fun c c' h1 h2 => ?_⟩
  · obtain ⟨r, r1, r2, r3⟩ := rl_rowof hN hc
    exact ⟨r, by omega, (rl_xr hT hN r1 r2 r3).1⟩
  · obtain ⟨r, r1, r2, r3⟩ := rl_rowof hN (c := c) (by omega)
    obtain ⟨r', s1, s2, s3⟩ := rl_rowof hN h2
    rw [(rl_xr hT hN r1 r2 r3).2.1, (rl_xr hT hN s1 s2 s3).2.1]
    apply Classical.byContradiction
    intro z
    have := rl_cfm hN (r - (r' + 1)) (r' + 1) (by omega)
    rw [show r' + 1 + (r - (r' + 1)) = r by omega] at this
    omega
theorem rl_C5 (hN : rl_N rt cc rl rc nc clc a_ctorType a_ctorFirst a_ctorSecond a_nodeKind a_nodeArg a_nodePos a_nodeRow b_nUp a_altOf a_altSide a_nodeNew a_rowFirst a_rowSize b_rowSize a_guardKind a_guardA a_guardB a_clauseFirst a_clauseRow a_clauseNodes a_clauseTests a_testHead a_clauseBind fr sz cf) : gh_C5 clc (xc_t a_clauseTests) (xc_h a_testHead) (nI rt) (xc_f cc a_ctorFirst a_ctorSecond) (xo_okT cc a_ctorType a_nodeKind a_nodeArg a_nodePos nc) := by
  intro c hc p p1 p7 ht
  obtain ⟨r, r1, r2, r3⟩ := rl_rowof hN hc
  obtain ⟨q1, _, _, _, _, _, _, _, _, _, _, _, q13⟩ := hN.2.2.2.2.1 r r1
  obtain ⟨a, b⟩ := q13.2.1 c r2 r3 p p1 p7 ht
  refine ⟨a, ?_⟩
  have hfr := rl_frle hN (r + 1) (by omega)
  rcases b with ⟨b1, n, b0, b2, b3⟩ | b
  · exact Or.inl ⟨b1, n, by omega, b3⟩
  · exact Or.inr b
theorem rl_hok (p : Nat) (t x : Int32) (h : (xo_okT cc a_ctorType a_nodeKind a_nodeArg a_nodePos nc) p t x) : t ≠ -1 := by
  rcases h with ⟨rfl, _⟩ | ⟨j, c, j1, j4, rfl, _⟩
  · decide
  · intro z
    have := congrArg Int32.toInt z
    rw [nI_toInt (by omega), show (-1 : Int32).toInt = -1 from by decide] at this
    omega
theorem rl_Rows (hT : rl_T tt rl rt cc ph a_ctorType a_ctorFirst a_ctorSecond a_typeSize a_typeCtors) (hN : rl_N rt cc rl rc nc clc a_ctorType a_ctorFirst a_ctorSecond a_nodeKind a_nodeArg a_nodePos a_nodeRow b_nUp a_altOf a_altSide a_nodeNew a_rowFirst a_rowSize b_rowSize a_guardKind a_guardA a_guardB a_clauseFirst a_clauseRow a_clauseNodes a_clauseTests a_testHead a_clauseBind fr sz cf) : ys_Row rc a_nodeKind a_nodeArg a_nodePos b_nUp a_rowFirst b_rowSize (rl_RM a_clauseTests a_testHead cf) (rl_PP a_clauseTests a_testHead a_clauseNodes cf) := by
  intro q hq
  obtain ⟨q1, q2, q3, q4, q5, q6, q7, q8, q9, q10, q11, q12, q13⟩ := hN.2.2.2.2.1 q hq
  have hfr := rl_frle hN (q + 1) (by omega)
  have hnc := hN.2.1
  refine ⟨fr q, sz q, q2, q4, tr_pos q6, by omega, fun n a b => tr_up _ _ _ q6 n a b, fun n a b => ?_, fun v H Q hH hQ => ?_⟩
  · obtain ⟨p, _, p7, ep⟩ := hN.2.2.2.2.2.2.2.2.2 n (by omega); exact ⟨p, p7, ep⟩
  · obtain ⟨s1, s2⟩ := q13.2.2.2.2 v H Q hH hQ
    refine ⟨s1, fun hR n n1 n2 => ?_⟩
    obtain ⟨c, ⟨c1, c2, c3⟩, c4⟩ := pk_least (fun c => cf q ≤ c ∧ c < cf (q + 1) ∧ gh_Mt (xc_t a_clauseTests) (xc_h a_testHead) v c) hR
    have hfirst : ∀ c', cf q ≤ c' → c' < c → ¬ gh_Mt (xc_t a_clauseTests) (xc_h a_testHead) v c' := fun c' a b d => c4 c' b ⟨a, by omega, d⟩
    rw [s2 c c1 c2 c3 hfirst n n1 n2]
    constructor
    · intro z; exact ⟨c, c1, c2, c3, hfirst, z⟩
    · rintro ⟨c', d1, d2, d3, d4, d5⟩
      have : c' = c := by
        rcases Nat.lt_trichotomy c' c with z | z | z
        · exact absurd d3 (hfirst c' d1 z)
        · exact z
        · exact absurd c3 (d4 c c1 z)
      rw [← this]; exact d5
theorem rl_M0 (hT : rl_T tt rl rt cc ph a_ctorType a_ctorFirst a_ctorSecond a_typeSize a_typeCtors) (hN : rl_N rt cc rl rc nc clc a_ctorType a_ctorFirst a_ctorSecond a_nodeKind a_nodeArg a_nodePos a_nodeRow b_nUp a_altOf a_altSide a_nodeNew a_rowFirst a_rowSize b_rowSize a_guardKind a_guardA a_guardB a_clauseFirst a_clauseRow a_clauseNodes a_clauseTests a_testHead a_clauseBind fr sz cf) (v : Nat → Int32) : ys_M a_guardKind (rl_RM a_clauseTests a_testHead cf) (rl_PP a_clauseTests a_testHead a_clauseNodes cf) (-1) rc v ↔ ∀ c, c < clc → xc_s a_clauseRow a_guardKind c = true → ¬ gh_Mt (xc_t a_clauseTests) (xc_h a_testHead) v c := by
  unfold ys_M
  constructor
  · rintro ⟨h, _⟩ c hc hs hm
    obtain ⟨r, r1, r2, r3⟩ := rl_rowof hN hc
    rw [(rl_xr hT hN r1 r2 r3).2.2.1] at hs
    exact h r r1 (of_decide_eq_true hs) ⟨c, r2, r3, hm⟩
  · intro h
    refine ⟨fun q hq hg ⟨c, c1, c2, c3⟩ => ?_, Or.inl (by decide)⟩
    obtain ⟨_, _, x3, x4⟩ := rl_xr hT hN hq c1 c2
    exact h c x4 (by rw [x3]; exact decide_eq_true hg) c3
theorem rl_noderow (hN : rl_N rt cc rl rc nc clc a_ctorType a_ctorFirst a_ctorSecond a_nodeKind a_nodeArg a_nodePos a_nodeRow b_nUp a_altOf a_altSide a_nodeNew a_rowFirst a_rowSize b_rowSize a_guardKind a_guardA a_guardB a_clauseFirst a_clauseRow a_clauseNodes a_clauseTests a_testHead a_clauseBind fr sz cf) (hcl : nc = fr rc) {n : Nat} (hn : n < nc) : ∃ r, r < rc ∧ fr r ≤ n ∧ n < fr r + sz r ∧ a_nodeRow n = nI r := by
  have key : ∀ r, r ≤ rc → n < fr r → ∃ q, q < r ∧ fr q ≤ n ∧ n < fr q + sz q := by
    intro r
    induction r with
    | zero => intro _ h; rw [hN.2.2.1] at h; omega
    | succ r ih =>
      intro hr h
      by_cases z : n < fr r
      · obtain ⟨q, q1, q2⟩ := ih (by omega) z; exact ⟨q, by omega, q2⟩
      · have := (hN.2.2.2.2.1 r (by omega)).1; exact ⟨r, by omega, by omega, by omega⟩
  obtain ⟨r, r1, r2, r3⟩ := key rc (Nat.le_refl _) (by omega)
  exact ⟨r, r1, r2, r3, (hN.2.2.2.2.1 r r1).2.2.2.2.2.2.1 n r2 r3⟩
theorem rl_Mn (hT : rl_T tt rl rt cc ph a_ctorType a_ctorFirst a_ctorSecond a_typeSize a_typeCtors) (hN : rl_N rt cc rl rc nc clc a_ctorType a_ctorFirst a_ctorSecond a_nodeKind a_nodeArg a_nodePos a_nodeRow b_nUp a_altOf a_altSide a_nodeNew a_rowFirst a_rowSize b_rowSize a_guardKind a_guardA a_guardB a_clauseFirst a_clauseRow a_clauseNodes a_clauseTests a_testHead a_clauseBind fr sz cf) {n r : Nat} (hr : r < rc) (n1 : fr r ≤ n) (n2 : n < fr r + sz r) (v : Nat → Int32) : ys_M a_guardKind (rl_RM a_clauseTests a_testHead cf) (rl_PP a_clauseTests a_testHead a_clauseNodes cf) (nI n) r v ↔ ∃ c, gh_Sel clc (xc_t a_clauseTests) (xc_h a_testHead) (xc_r a_clauseRow) (xc_s a_clauseRow a_guardKind) v c ∧ bi_L (a_clauseNodes c) n = true := by
  have hnc := hN.2.1
  have hn48 : n < 48 := by
    have h1 := rl_frle hN (r + 1) (by omega)
    have h2 := (hN.2.2.2.2.1 r hr).1
    omega
  have en : (nI n).toNatClampNeg = n := nI_clamp (by omega)
  unfold ys_M
  rw [en]
  constructor
  · rintro ⟨h, h2⟩
    have h3 := h2.resolve_left (nI_pos (by omega))
    obtain ⟨_, c, c1, c2, c3, c4, c5⟩ := h3
    obtain ⟨x1, x2, x3, x4⟩ := rl_xr hT hN hr c1 c2
    refine ⟨c, ⟨x4, c3, fun c0 h0 hm => ?_⟩, c5⟩
    obtain ⟨q, q1, q2, q3⟩ := rl_rowof hN (c := c0) (by omega)
    obtain ⟨y1, y2, y3, y4⟩ := rl_xr hT hN q1 q2 q3
    have hqr : q ≠ r := by
      intro z; subst z
      exact c4 c0 q2 h0 hm
    have hq : q < r := by
      rcases Nat.lt_or_ge q r with z | z
      · exact z
      · have := rl_cfm hN (q - (r + 1)) (r + 1) (by omega)
        rw [show r + 1 + (q - (r + 1)) = q by omega] at this; omega
    refine ⟨?_, by rw [x2, y2]; exact hqr⟩
    rw [y3]
    exact decide_eq_false (fun g => h q hq g ⟨c0, q2, q3, hm⟩)
  · rintro ⟨c, hs, hb⟩
    obtain ⟨r', r1, r2, r3⟩ := rl_rowof hN hs.1
    have hnr := (hN.2.2.2.2.1 r' r1).2.2.2.2.2.2.2.2.2.2.2.2.1 c r2 r3 n hb
    have err : r' = r := by
      have e1 := (hN.2.2.2.2.1 r' r1).1
      have e2 := (hN.2.2.2.2.1 r hr).1
      rcases Nat.lt_trichotomy r' r with z | z | z
      · have := rl_frm hN (r - (r' + 1)) (r' + 1) (by omega)
        rw [show r' + 1 + (r - (r' + 1)) = r by omega] at this; omega
      · exact z
      · have := rl_frm hN (r' - (r + 1)) (r + 1) (by omega)
        rw [show r + 1 + (r' - (r + 1)) = r' by omega] at this; omega
    subst err
    obtain ⟨x1, x2, x3, x4⟩ := rl_xr hT hN r1 r2 r3
    refine ⟨fun q hq hg ⟨c0, c1, c2, c3⟩ => ?_, Or.inr ⟨⟨c, r2, r3, hs.2.1⟩, c, r2, r3, hs.2.1, fun c' a b hm => ?_, hb⟩⟩
    · have hlt : c0 < c := by
        have := rl_cfm hN (r' - (q + 1)) (q + 1) (by omega)
        rw [show q + 1 + (r' - (q + 1)) = r' by omega] at this; omega
      have := (hs.2.2 c0 hlt c3).1
      rw [(rl_xr hT hN (by omega) c1 c2).2.2.1, decide_eq_true hg] at this
      exact absurd this (by decide)
    · exact (hs.2.2 c' b hm).2 (by rw [x2, (rl_xr hT hN r1 a (by omega)).2.1])
theorem rl_mtc {u v : Nat → Int32} (h : sh_ag 8 u v) (c : Nat) : gh_Mt (xc_t a_clauseTests) (xc_h a_testHead) u c ↔ gh_Mt (xc_t a_clauseTests) (xc_h a_testHead) v c := by
  constructor
  · intro z p p1 p7 ht; rw [← h p p1 (by omega)]; exact z p p1 p7 ht
  · intro z p p1 p7 ht; rw [h p p1 (by omega)]; exact z p p1 p7 ht
theorem rl_selc {u v : Nat → Int32} (h : sh_ag 8 u v) (c : Nat) : gh_Sel clc (xc_t a_clauseTests) (xc_h a_testHead) (xc_r a_clauseRow) (xc_s a_clauseRow a_guardKind) u c ↔ gh_Sel clc (xc_t a_clauseTests) (xc_h a_testHead) (xc_r a_clauseRow) (xc_s a_clauseRow a_guardKind) v c := by
  unfold gh_Sel
  constructor
  · rintro ⟨a, b, d⟩; exact ⟨a, (rl_mtc h c).mp b, fun c0 x y => d c0 x ((rl_mtc h c0).mpr y)⟩
  · rintro ⟨a, b, d⟩; exact ⟨a, (rl_mtc h c).mpr b, fun c0 x y => d c0 x ((rl_mtc h c0).mp y)⟩
theorem rl_ysc {u v : Nat → Int32} (x1 : Int32) (r : Nat) (h : sh_ag 8 u v) (hm : ys_M a_guardKind (rl_RM a_clauseTests a_testHead cf) (rl_PP a_clauseTests a_testHead a_clauseNodes cf) x1 r u) : ys_M a_guardKind (rl_RM a_clauseTests a_testHead cf) (rl_PP a_clauseTests a_testHead a_clauseNodes cf) x1 r v := by
  obtain ⟨a, b⟩ := hm
  refine ⟨fun q hq hg ⟨c, c1, c2, c3⟩ => a q hq hg ⟨c, c1, c2, (rl_mtc h c).mpr c3⟩, ?_⟩
  rcases b with b | ⟨⟨c, c1, c2, c3⟩, c', d1, d2, d3, d4, d5⟩
  · exact Or.inl b
  · exact Or.inr ⟨⟨c, c1, c2, (rl_mtc h c).mp c3⟩, c', d1, d2, (rl_mtc h c').mp d3, fun c'' x y z => d4 c'' x y ((rl_mtc h c'').mpr z), d5⟩
theorem rl_mc {goal : Int64} {u v : Nat → Int32} (h : sh_ag 8 u v) (hm : xm_M clc (xc_t a_clauseTests) (xc_h a_testHead) (xc_r a_clauseRow) (xc_s a_clauseRow a_guardKind) goal u) : xm_M clc (xc_t a_clauseTests) (xc_h a_testHead) (xc_r a_clauseRow) (xc_s a_clauseRow a_guardKind) goal v := by
  rcases hm with ⟨a, b⟩ | ⟨a, c, b, d⟩
  · exact Or.inl ⟨a, fun c hc => b c ((rl_selc h c).mpr hc)⟩
  · exact Or.inr ⟨a, c, (rl_selc h c).mp b, d⟩
end
end
section
section
variable {tt rl rt cc rc nc hlc clc sc qt : Nat} {ph ro misF lr : Int32} {solM livM : Int64} {a_ctorType a_ctorFirst a_ctorSecond a_typeSize a_typeCtors a_rowFirst a_rowSize a_guardKind a_guardA a_guardB a_clauseFirst a_nodeKind a_nodeArg a_nodePos a_nodeRow a_altOf a_altSide a_nodeNew a_after a_holePos a_holeType a_holeOwner a_holeSide a_clauseRow a_clauseTests a_testHead a_clauseBind a_litCount a_lits a_freshInt a_stateOpen a_statePos a_stateNext a_child a_bucketHead a_pin a_marked a_queue a_val a_valType a_bound : Nat → Int32} {a_clauseNodes a_stateMask : Nat → Int64} {b_nUp b_rowSize b_holePos b_holeType b_holeUp b_head b_headType b_binds b_look b_lookType b_bound b_hit b_part : Nat → Int32}
variable {k : Nat} {fr sz cf : Nat → Nat}
theorem rl_base (hT : rl_T tt rl rt cc ph a_ctorType a_ctorFirst a_ctorSecond a_typeSize a_typeCtors) (hp : ph ≠ 0) : xc_F cc a_ctorFirst a_ctorSecond ∧ xo_T cc a_ctorType ∧ (∀ q t c, 2 ≤ q → q ≤ 7 → (xc_f cc a_ctorFirst a_ctorSecond) t c q ≠ -1 → 0 < (xc_n a_litCount a_typeSize) q ((xc_f cc a_ctorFirst a_ctorSecond) t c q)) ∧ 0 < (xc_n a_litCount a_typeSize) 1 (nI rt) := by
  have hT1 := hT.1
  refine ⟨cf_F hT1.2.1 hT.2.2.2.1, fun c hc => ?_, fun q t c _ _ h => cf_pos (hT.2.2.2.2.2.2.2 hp) hT1.2.1 hT.2.2.2.2.2.2.1 hT.2.2.2.1 q t c h, cf_tpos (hT.2.2.2.2.2.2.2 hp) hT1.2.1 hT.2.2.2.2.2.2.1 hT1.2.2.2.2.1⟩
  obtain ⟨q, q1, q2, q3⟩ := hT.2.2.1 c hc
  exact ⟨q, q1, by omega, q3⟩
theorem rl_search17 {post : Int32 → SY → Prop} {x1 : Int32} {r : Nat} {ph' : Int32} (hT : rl_T tt rl rt cc ph a_ctorType a_ctorFirst a_ctorSecond a_typeSize a_typeCtors) (hp : ph ≠ 0) (hN : rl_N rt cc rl rc nc clc a_ctorType a_ctorFirst a_ctorSecond a_nodeKind a_nodeArg a_nodePos a_nodeRow b_nUp a_altOf a_altSide a_nodeNew a_rowFirst a_rowSize b_rowSize a_guardKind a_guardA a_guardB a_clauseFirst a_clauseRow a_clauseNodes a_clauseTests a_testHead a_clauseBind fr sz cf) (hl : xl_OK a_nodeKind a_nodeArg a_nodePos a_nodeNew nc a_litCount a_lits a_freshInt) (hr : r ≤ rc) (hx : x1 < 0 ∨ (r < rc ∧ ∃ n, x1 = nI n ∧ ∀ f d, f + d ≤ 48 → a_rowFirst r = nI f → b_rowSize r = nI d → f ≤ n ∧ n < f + d))
    (h0 : (∀ u, gh_Sh (nI rt) (xc_f cc a_ctorFirst a_ctorSecond) (xc_n a_litCount a_typeSize) (xc_d a_litCount a_lits a_freshInt a_typeCtors) u → ¬ ys_M a_guardKind (rl_RM a_clauseTests a_testHead cf) (rl_PP a_clauseTests a_testHead a_clauseNodes cf) x1 r u) → ∀ LK LT HT PT, post 0 (nI tt, nI rl, nI rt, ph', nI cc, nI nc, nI rc, nI hlc, lr, ro, a_ctorType, a_ctorFirst, a_ctorSecond, a_nodeKind, a_nodeArg, a_nodePos, a_nodeRow, b_nUp, a_rowFirst, b_rowSize, a_guardKind, a_guardA, a_guardB, b_holePos, b_holeType, b_holeUp, b_head, b_headType, b_binds, LK, LT, b_bound, HT, PT))
    (h1 : ∀ LK LT HT PT, gh_Sh (nI rt) (xc_f cc a_ctorFirst a_ctorSecond) (xc_n a_litCount a_typeSize) (xc_d a_litCount a_lits a_freshInt a_typeCtors) LK → (∀ q, 1 ≤ q → q ≤ 7 → LT q = gh_ty (nI rt) (xc_f cc a_ctorFirst a_ctorSecond) LK q) → ys_M a_guardKind (rl_RM a_clauseTests a_testHead cf) (rl_PP a_clauseTests a_testHead a_clauseNodes cf) x1 r LK → (∀ u, gh_Sh (nI rt) (xc_f cc a_ctorFirst a_ctorSecond) (xc_n a_litCount a_typeSize) (xc_d a_litCount a_lits a_freshInt a_typeCtors) u → ys_M a_guardKind (rl_RM a_clauseTests a_testHead cf) (rl_PP a_clauseTests a_testHead a_clauseNodes cf) x1 r u → ¬ sh_lt (nI rt) (xc_f cc a_ctorFirst a_ctorSecond) (xc_n a_litCount a_typeSize) (xc_d a_litCount a_lits a_freshInt a_typeCtors) u LK) → post 1 (nI tt, nI rl, nI rt, ph', nI cc, nI nc, nI rc, nI hlc, lr, ro, a_ctorType, a_ctorFirst, a_ctorSecond, a_nodeKind, a_nodeArg, a_nodePos, a_nodeRow, b_nUp, a_rowFirst, b_rowSize, a_guardKind, a_guardA, a_guardB, b_holePos, b_holeType, b_holeUp, b_head, b_headType, b_binds, LK, LT, b_bound, HT, PT)) : wY_search_17 post x1 (nI r) (nI tt) (nI rl) (nI rt) ph' (nI cc) (nI nc) (nI rc) (nI hlc) lr ro a_ctorType a_ctorFirst a_ctorSecond a_nodeKind a_nodeArg a_nodePos a_nodeRow b_nUp a_rowFirst b_rowSize a_guardKind a_guardA a_guardB b_holePos b_holeType b_holeUp b_head b_headType b_binds b_look b_lookType b_bound b_hit b_part := by
  obtain ⟨e1, e2, e3, e4⟩ := rl_base (a_litCount := a_litCount) hT hp
  have hT1 := hT.1
  have hrl := hN.1
  have hnc := hN.2.1
  have hlim := hN.2.2.2.2.2.2.2.2.1
  have ht := hT.2.2.2.2.2.2.1
  exact yw_search17 (RM := (rl_RM a_clauseTests a_testHead cf)) (PP := (rl_PP a_clauseTests a_testHead a_clauseNodes cf)) (NW := a_nodeNew) (by omega) hnc (by omega) e1 e2 hl hlim ht e3 e4 (by omega) (cf_inj hl hlim ht) (rl_Rows hT hN) hr hx (fun u v a b => rl_ysc x1 r a b) h0 h1
theorem rl_search0 {post : Int32 → SY → Prop} {ph' : Int32} (hT : rl_T tt rl rt cc ph a_ctorType a_ctorFirst a_ctorSecond a_typeSize a_typeCtors) (hp : ph ≠ 0) (hN : rl_N rt cc rl rc nc clc a_ctorType a_ctorFirst a_ctorSecond a_nodeKind a_nodeArg a_nodePos a_nodeRow b_nUp a_altOf a_altSide a_nodeNew a_rowFirst a_rowSize b_rowSize a_guardKind a_guardA a_guardB a_clauseFirst a_clauseRow a_clauseNodes a_clauseTests a_testHead a_clauseBind fr sz cf) (hl : xl_OK a_nodeKind a_nodeArg a_nodePos a_nodeNew nc a_litCount a_lits a_freshInt)
    (h0 : (∀ u, gh_Sh (nI rt) (xc_f cc a_ctorFirst a_ctorSecond) (xc_n a_litCount a_typeSize) (xc_d a_litCount a_lits a_freshInt a_typeCtors) u → ¬ ys_M a_guardKind (rl_RM a_clauseTests a_testHead cf) (rl_PP a_clauseTests a_testHead a_clauseNodes cf) (-1) rc u) → ∀ LK LT HT PT, post 0 (nI tt, nI rl, nI rt, ph', nI cc, nI nc, nI rc, nI hlc, lr, ro, a_ctorType, a_ctorFirst, a_ctorSecond, a_nodeKind, a_nodeArg, a_nodePos, a_nodeRow, b_nUp, a_rowFirst, b_rowSize, a_guardKind, a_guardA, a_guardB, b_holePos, b_holeType, b_holeUp, b_head, b_headType, b_binds, LK, LT, b_bound, HT, PT))
    (h1 : ∀ LK LT HT PT, gh_Sh (nI rt) (xc_f cc a_ctorFirst a_ctorSecond) (xc_n a_litCount a_typeSize) (xc_d a_litCount a_lits a_freshInt a_typeCtors) LK → (∀ q, 1 ≤ q → q ≤ 7 → LT q = gh_ty (nI rt) (xc_f cc a_ctorFirst a_ctorSecond) LK q) → ys_M a_guardKind (rl_RM a_clauseTests a_testHead cf) (rl_PP a_clauseTests a_testHead a_clauseNodes cf) (-1) rc LK → (∀ u, gh_Sh (nI rt) (xc_f cc a_ctorFirst a_ctorSecond) (xc_n a_litCount a_typeSize) (xc_d a_litCount a_lits a_freshInt a_typeCtors) u → ys_M a_guardKind (rl_RM a_clauseTests a_testHead cf) (rl_PP a_clauseTests a_testHead a_clauseNodes cf) (-1) rc u → ¬ sh_lt (nI rt) (xc_f cc a_ctorFirst a_ctorSecond) (xc_n a_litCount a_typeSize) (xc_d a_litCount a_lits a_freshInt a_typeCtors) u LK) → post 1 (nI tt, nI rl, nI rt, ph', nI cc, nI nc, nI rc, nI hlc, lr, ro, a_ctorType, a_ctorFirst, a_ctorSecond, a_nodeKind, a_nodeArg, a_nodePos, a_nodeRow, b_nUp, a_rowFirst, b_rowSize, a_guardKind, a_guardA, a_guardB, b_holePos, b_holeType, b_holeUp, b_head, b_headType, b_binds, LK, LT, b_bound, HT, PT)) : wpY_search post (nI tt, nI rl, nI rt, ph', nI cc, nI nc, nI rc, nI hlc, lr, ro, a_ctorType, a_ctorFirst, a_ctorSecond, a_nodeKind, a_nodeArg, a_nodePos, a_nodeRow, b_nUp, a_rowFirst, b_rowSize, a_guardKind, a_guardA, a_guardB, b_holePos, b_holeType, b_holeUp, b_head, b_headType, b_binds, b_look, b_lookType, b_bound, b_hit, b_part) (-1) :=
  br_f (by decide) (rl_search17 hT hp hN hl (Nat.le_refl _) (Or.inl (by decide)) h0 h1)
theorem rl_searchn {post : Int32 → SY → Prop} {n r : Nat} {ph' : Int32} (hT : rl_T tt rl rt cc ph a_ctorType a_ctorFirst a_ctorSecond a_typeSize a_typeCtors) (hp : ph ≠ 0) (hN : rl_N rt cc rl rc nc clc a_ctorType a_ctorFirst a_ctorSecond a_nodeKind a_nodeArg a_nodePos a_nodeRow b_nUp a_altOf a_altSide a_nodeNew a_rowFirst a_rowSize b_rowSize a_guardKind a_guardA a_guardB a_clauseFirst a_clauseRow a_clauseNodes a_clauseTests a_testHead a_clauseBind fr sz cf) (hl : xl_OK a_nodeKind a_nodeArg a_nodePos a_nodeNew nc a_litCount a_lits a_freshInt) (hr : r < rc) (n1 : fr r ≤ n) (n2 : n < fr r + sz r)
    (h0 : (¬ ∃ v c, gh_Sh (nI rt) (xc_f cc a_ctorFirst a_ctorSecond) (xc_n a_litCount a_typeSize) (xc_d a_litCount a_lits a_freshInt a_typeCtors) v ∧ gh_Sel clc (xc_t a_clauseTests) (xc_h a_testHead) (xc_r a_clauseRow) (xc_s a_clauseRow a_guardKind) v c ∧ bi_L (a_clauseNodes c) n = true) → ∀ LK LT HT PT, post 0 (nI tt, nI rl, nI rt, ph', nI cc, nI nc, nI rc, nI hlc, lr, ro, a_ctorType, a_ctorFirst, a_ctorSecond, a_nodeKind, a_nodeArg, a_nodePos, a_nodeRow, b_nUp, a_rowFirst, b_rowSize, a_guardKind, a_guardA, a_guardB, b_holePos, b_holeType, b_holeUp, b_head, b_headType, b_binds, LK, LT, b_bound, HT, PT))
    (h1 : ∀ LK LT HT PT, gh_Sh (nI rt) (xc_f cc a_ctorFirst a_ctorSecond) (xc_n a_litCount a_typeSize) (xc_d a_litCount a_lits a_freshInt a_typeCtors) LK → (∀ q, 1 ≤ q → q ≤ 7 → LT q = gh_ty (nI rt) (xc_f cc a_ctorFirst a_ctorSecond) LK q) → (∃ c, gh_Sel clc (xc_t a_clauseTests) (xc_h a_testHead) (xc_r a_clauseRow) (xc_s a_clauseRow a_guardKind) LK c ∧ bi_L (a_clauseNodes c) n = true) → (∀ u, gh_Sh (nI rt) (xc_f cc a_ctorFirst a_ctorSecond) (xc_n a_litCount a_typeSize) (xc_d a_litCount a_lits a_freshInt a_typeCtors) u → (∃ c, gh_Sel clc (xc_t a_clauseTests) (xc_h a_testHead) (xc_r a_clauseRow) (xc_s a_clauseRow a_guardKind) u c ∧ bi_L (a_clauseNodes c) n = true) → ¬ sh_lt (nI rt) (xc_f cc a_ctorFirst a_ctorSecond) (xc_n a_litCount a_typeSize) (xc_d a_litCount a_lits a_freshInt a_typeCtors) u LK) → post 1 (nI tt, nI rl, nI rt, ph', nI cc, nI nc, nI rc, nI hlc, lr, ro, a_ctorType, a_ctorFirst, a_ctorSecond, a_nodeKind, a_nodeArg, a_nodePos, a_nodeRow, b_nUp, a_rowFirst, b_rowSize, a_guardKind, a_guardA, a_guardB, b_holePos, b_holeType, b_holeUp, b_head, b_headType, b_binds, LK, LT, b_bound, HT, PT)) : wpY_search post (nI tt, nI rl, nI rt, ph', nI cc, nI nc, nI rc, nI hlc, lr, ro, a_ctorType, a_ctorFirst, a_ctorSecond, a_nodeKind, a_nodeArg, a_nodePos, a_nodeRow, b_nUp, a_rowFirst, b_rowSize, a_guardKind, a_guardA, a_guardB, b_holePos, b_holeType, b_holeUp, b_head, b_headType, b_binds, b_look, b_lookType, b_bound, b_hit, b_part) (nI n) := by
  obtain ⟨q1, q2, q3, q4, q5, q6, q7, _⟩ := hN.2.2.2.2.1 r hr
  have hfr := rl_frle hN (r + 1) (by omega)
  have hnc := hN.2.1
  have en : (nI n).toNatClampNeg = n := nI_clamp (by omega)
  have hM := rl_Mn hT hN hr n1 n2
  refine br_t (nI_pos' (by omega)) ⟨vp_in_nI (by omega) (by omega), ?_⟩
  rw [en, q7 n n1 n2]
  refine rl_search17 (fr := fr) (sz := sz) (cf := cf) hT hp hN hl (by omega) (Or.inr ⟨hr, n, rfl, fun f d hfd ef ed => ?_⟩) (fun hno => h0 (fun ⟨v, c, v1, v2, v3⟩ => hno v v1 ((hM v).mpr ⟨c, v2, v3⟩))) (fun LK LT HT PT a b c d => h1 LK LT HT PT a b ((hM LK).mp c) (fun u u1 u2 => d u u1 ((hM u).mpr u2)))
  rw [q2] at ef
  rw [q4] at ed
  have e1 := (nI_eq (by omega) (by omega)).mp ef
  have e2 := (nI_eq (by omega) (by omega)).mp ed
  omega
theorem vc_compile (hA : rl_All tt rl rt cc ph a_ctorType a_ctorFirst a_ctorSecond a_typeSize a_typeCtors rc nc clc a_nodeKind a_nodeArg a_nodePos a_nodeRow b_nUp a_altOf a_altSide a_nodeNew a_rowFirst a_rowSize b_rowSize a_guardKind a_guardA a_guardB a_clauseFirst a_clauseRow a_clauseNodes a_clauseTests a_testHead a_clauseBind hlc ro a_holePos a_holeType a_holeOwner a_holeSide b_holePos b_holeType b_holeUp a_valType a_val b_headType b_head sc misF solM livM a_litCount a_lits a_freshInt a_stateMask a_stateOpen a_statePos a_child a_bound b_binds) : wpX_compile (fun r u' => wpY_compile (fun r' v' => r' = r ∧ i_Rel (k + 4) u' v') (nI tt, nI rl, nI rt, ph, nI cc, nI nc, nI rc, nI hlc, lr, ro, a_ctorType, a_ctorFirst, a_ctorSecond, a_nodeKind, a_nodeArg, a_nodePos, a_nodeRow, b_nUp, a_rowFirst, b_rowSize, a_guardKind, a_guardA, a_guardB, b_holePos, b_holeType, b_holeUp, b_head, b_headType, b_binds, b_look, b_lookType, b_bound, b_hit, b_part)) (nI tt, nI rl, nI rt, ph, nI cc, nI rc, ro, nI nc, nI hlc, nI clc, nI sc, solM, livM, misF, nI qt, lr, a_ctorType, a_ctorFirst, a_ctorSecond, a_typeSize, a_typeCtors, a_rowFirst, a_rowSize, a_guardKind, a_guardA, a_guardB, a_clauseFirst, a_nodeKind, a_nodeArg, a_nodePos, a_nodeRow, a_altOf, a_altSide, a_nodeNew, a_after, a_holePos, a_holeType, a_holeOwner, a_holeSide, a_clauseRow, a_clauseNodes, a_clauseTests, a_testHead, a_clauseBind, a_litCount, a_lits, a_freshInt, a_stateMask, a_stateOpen, a_statePos, a_stateNext, a_child, a_bucketHead, a_pin, a_marked, a_queue, a_val, a_valType, a_bound) := by
  have R : i_Rel (k + 4) (nI tt, nI rl, nI rt, ph, nI cc, nI rc, ro, nI nc, nI hlc, nI clc, nI sc, solM, livM, misF, nI qt, lr, a_ctorType, a_ctorFirst, a_ctorSecond, a_typeSize, a_typeCtors, a_rowFirst, a_rowSize, a_guardKind, a_guardA, a_guardB, a_clauseFirst, a_nodeKind, a_nodeArg, a_nodePos, a_nodeRow, a_altOf, a_altSide, a_nodeNew, a_after, a_holePos, a_holeType, a_holeOwner, a_holeSide, a_clauseRow, a_clauseNodes, a_clauseTests, a_testHead, a_clauseBind, a_litCount, a_lits, a_freshInt, a_stateMask, a_stateOpen, a_statePos, a_stateNext, a_child, a_bucketHead, a_pin, a_marked, a_queue, a_val, a_valType, a_bound) (nI tt, nI rl, nI rt, ph, nI cc, nI nc, nI rc, nI hlc, lr, ro, a_ctorType, a_ctorFirst, a_ctorSecond, a_nodeKind, a_nodeArg, a_nodePos, a_nodeRow, b_nUp, a_rowFirst, b_rowSize, a_guardKind, a_guardA, a_guardB, b_holePos, b_holeType, b_holeUp, b_head, b_headType, b_binds, b_look, b_lookType, b_bound, b_hit, b_part) := zz_in hA
  obtain ⟨fr, sz, cf, hT, hN, hO, hV, hB, hG, h0, h1⟩ := hA
  by_cases c0 : ph = 0
  · refine br_t c0 (br_t c0 ?_)
    unfold wY_compile_14
    exact br_t c0 ⟨rfl, R⟩
  by_cases c1 : ¬ ro = 0
  · refine br_f c0 (br_f c1 (br_f c0 (br_f c1 ?_)))
    unfold wY_compile_14
    exact br_f c0 ⟨rfl, R⟩
  have c1 := Classical.not_not.mp c1
  have hT1 := hT.1
  have hnc := hN.2.1
  have hlim := hN.2.2.2.2.2.2.2.2.1
  have ht := hT.2.2.2.2.2.2.1
  obtain ⟨r1, r2, r3, r4⟩ := rl_rtn hT
  have hclc := rl_clc hN
  refine br_f c0 (br_t c1 (xw_collect hnc hN.2.2.2.2.2.2.2.1 hN.2.2.2.2.2.2.2.2.2 hlim (fun LC LI FR hl => ?_)))
  obtain ⟨e1, e2, e3, e4⟩ := rl_base (a_litCount := LC) hT c0
  have h5 := rl_C5 hN
  refine xw_build (okT := (xo_okT cc a_ctorType a_nodeKind a_nodeArg a_nodePos nc)) (by omega) (rl_xok hT hN) (cf_L hl hlim ht) r4 e1 h5 rl_hok e3 r2 (gs_ex r1 e4 e3) (fun sc MK OP PS NX BH CH F => ?_)
  refine xw_judge (by omega) (rl_xok hT hN) F.2.1 (fun sol liv mis J => ?_)
  obtain ⟨j1, j2, j3, j4⟩ := J
  obtain ⟨lv1, lv2⟩ := gw_leaves h5 rl_hok r1 xc_hsol F
  have hmis : mis ≠ 0 ↔ ∃ v, gh_Sh (nI rt) (xc_f cc a_ctorFirst a_ctorSecond) (xc_n LC a_typeSize) (xc_d LC LI FR a_typeCtors) v ∧ ∀ c, c < clc → xc_s a_clauseRow a_guardKind c = true → ¬ gh_Mt (xc_t a_clauseTests) (xc_h a_testHead) v c := by
    rw [j3]
    constructor
    · rintro ⟨s, s1, s2, s3⟩
      obtain ⟨v, v1, v2⟩ := lv1 s s1 s2
      refine ⟨v, v1, fun c hc hs hm => ?_⟩
      obtain ⟨c', x1, x2⟩ := (gs_solid xc_hsol).mpr ⟨c, hc, hs, hm⟩
      have := s3 c' ((v2 c').mpr x1)
      rw [(j1 c').mpr ⟨x1.1, x2⟩] at this
      exact absurd this (by decide)
    · rintro ⟨v, v1, v2⟩
      obtain ⟨s, s1, s2, s3⟩ := lv2 v v1
      refine ⟨s, s1, s2, fun c hc => ?_⟩
      have hs := (s3 c).mp hc
      cases hb : bi_L sol c with
      | false => rfl
      | true => exact absurd hs.2.1 (v2 c hs.1 ((j1 c).mp hb).2)
  have hliv : ∀ n, bi_L liv n = true ↔ ∃ v c, gh_Sh (nI rt) (xc_f cc a_ctorFirst a_ctorSecond) (xc_n LC a_typeSize) (xc_d LC LI FR a_typeCtors) v ∧ gh_Sel clc (xc_t a_clauseTests) (xc_h a_testHead) (xc_r a_clauseRow) (xc_s a_clauseRow a_guardKind) v c ∧ bi_L (a_clauseNodes c) n = true := by
    intro n
    rw [j4 n]
    constructor
    · rintro ⟨c, x1, ⟨s, s1, s2, s3⟩, x2⟩
      obtain ⟨v, v1, v2⟩ := lv1 s s1 s2
      exact ⟨v, c, v1, (v2 c).mp s3, x2⟩
    · rintro ⟨v, c, v1, v2, v3⟩
      obtain ⟨s, s1, s2, s3⟩ := lv2 v v1
      exact ⟨c, v2.1, ⟨s, s1, s2, (s3 c).mpr v2⟩, v3⟩
  refine xw_forget (fun BD hBD => ?_)
  have R' : ∀ LK LT HT PT BD', (∀ v, v < 4 → BD' v = 0) → i_Rel (k + 4) (nI tt, nI rl, nI rt, 2, nI cc, nI rc, ro, nI nc, nI hlc, nI clc, nI sc, sol, liv, mis, nI qt, -11, a_ctorType, a_ctorFirst, a_ctorSecond, a_typeSize, a_typeCtors, a_rowFirst, a_rowSize, a_guardKind, a_guardA, a_guardB, a_clauseFirst, a_nodeKind, a_nodeArg, a_nodePos, a_nodeRow, a_altOf, a_altSide, a_nodeNew, a_after, a_holePos, a_holeType, a_holeOwner, a_holeSide, a_clauseRow, a_clauseNodes, a_clauseTests, a_testHead, a_clauseBind, LC, LI, FR, MK, OP, PS, NX, CH, BH, a_pin, a_marked, a_queue, a_val, a_valType, BD) (nI tt, nI rl, nI rt, 2, nI cc, nI nc, nI rc, nI hlc, -11, ro, a_ctorType, a_ctorFirst, a_ctorSecond, a_nodeKind, a_nodeArg, a_nodePos, a_nodeRow, b_nUp, a_rowFirst, b_rowSize, a_guardKind, a_guardA, a_guardB, b_holePos, b_holeType, b_holeUp, b_head, b_headType, BD', LK, LT, b_bound, HT, PT) := by
    intro LK LT HT PT BD' hBD'
    exact zz_in ⟨fr, sz, cf, rl_Tph hT c0 (Or.inr rfl), hN, hO, rl_Vph hV (by decide), fun v hv => by rw [hBD v hv, hBD' v hv], fun _ => ⟨hl, F, j1, hmis, hliv⟩, fun z => absurd z (by decide), fun z => absurd c1 z⟩
  have ys : ∀ post : Int32 → SY → Prop, ((mis = 0) → ∀ LK LT HT PT BD', (∀ v, v < 4 → BD' v = 0) → post 1 (nI tt, nI rl, nI rt, 2, nI cc, nI nc, nI rc, nI hlc, -11, ro, a_ctorType, a_ctorFirst, a_ctorSecond, a_nodeKind, a_nodeArg, a_nodePos, a_nodeRow, b_nUp, a_rowFirst, b_rowSize, a_guardKind, a_guardA, a_guardB, b_holePos, b_holeType, b_holeUp, b_head, b_headType, BD', LK, LT, b_bound, HT, PT)) → (mis ≠ 0 → ∀ LK LT HT PT BD', (∀ v, v < 4 → BD' v = 0) → post 0 (nI tt, nI rl, nI rt, 2, nI cc, nI nc, nI rc, nI hlc, -11, ro, a_ctorType, a_ctorFirst, a_ctorSecond, a_nodeKind, a_nodeArg, a_nodePos, a_nodeRow, b_nUp, a_rowFirst, b_rowSize, a_guardKind, a_guardA, a_guardB, b_holePos, b_holeType, b_holeUp, b_head, b_headType, BD', LK, LT, b_bound, HT, PT)) → wpY_compile post (nI tt, nI rl, nI rt, ph, nI cc, nI nc, nI rc, nI hlc, lr, ro, a_ctorType, a_ctorFirst, a_ctorSecond, a_nodeKind, a_nodeArg, a_nodePos, a_nodeRow, b_nUp, a_rowFirst, b_rowSize, a_guardKind, a_guardA, a_guardB, b_holePos, b_holeType, b_holeUp, b_head, b_headType, b_binds, b_look, b_lookType, b_bound, b_hit, b_part) := by
    intro post hy hn
    refine br_f c0 (br_t c1 (yw_forget (fun BD' hBD' => br_t rfl ?_)))
    refine rl_search0 (fr := fr) (sz := sz) (cf := cf) hT c0 hN hl (fun hno LK LT HT PT => br_t rfl (hy ?_ LK LT HT PT BD' hBD')) (fun LK LT HT PT a b c d => br_f (by decide) (hn ?_ LK LT HT PT BD' hBD'))
    · apply Classical.byContradiction
      intro z
      obtain ⟨v, v1, v2⟩ := hmis.mp z
      exact hno v v1 ((rl_M0 hT hN v).mpr v2)
    · exact hmis.mpr ⟨LK, a, (rl_M0 hT hN LK).mp c⟩
  refine br_c (fun z => ?_) (fun z => ?_)
  · exact ys _ (fun _ LK LT HT PT BD' hBD' => ⟨rfl, R' LK LT HT PT BD' hBD'⟩) (fun y => absurd z y)
  · exact ys _ (fun y => absurd y z) (fun _ LK LT HT PT BD' hBD' => ⟨rfl, R' LK LT HT PT BD' hBD'⟩)
theorem vc_verdict (hA : rl_All tt rl rt cc ph a_ctorType a_ctorFirst a_ctorSecond a_typeSize a_typeCtors rc nc clc a_nodeKind a_nodeArg a_nodePos a_nodeRow b_nUp a_altOf a_altSide a_nodeNew a_rowFirst a_rowSize b_rowSize a_guardKind a_guardA a_guardB a_clauseFirst a_clauseRow a_clauseNodes a_clauseTests a_testHead a_clauseBind hlc ro a_holePos a_holeType a_holeOwner a_holeSide b_holePos b_holeType b_holeUp a_valType a_val b_headType b_head sc misF solM livM a_litCount a_lits a_freshInt a_stateMask a_stateOpen a_statePos a_child a_bound b_binds) : wpX_verdict (fun r => wpY_verdict (fun r' v' => r' = r ∧ i_Rel (k + 4) (nI tt, nI rl, nI rt, ph, nI cc, nI rc, ro, nI nc, nI hlc, nI clc, nI sc, solM, livM, misF, nI qt, lr, a_ctorType, a_ctorFirst, a_ctorSecond, a_typeSize, a_typeCtors, a_rowFirst, a_rowSize, a_guardKind, a_guardA, a_guardB, a_clauseFirst, a_nodeKind, a_nodeArg, a_nodePos, a_nodeRow, a_altOf, a_altSide, a_nodeNew, a_after, a_holePos, a_holeType, a_holeOwner, a_holeSide, a_clauseRow, a_clauseNodes, a_clauseTests, a_testHead, a_clauseBind, a_litCount, a_lits, a_freshInt, a_stateMask, a_stateOpen, a_statePos, a_stateNext, a_child, a_bucketHead, a_pin, a_marked, a_queue, a_val, a_valType, a_bound) v') (nI tt, nI rl, nI rt, ph, nI cc, nI nc, nI rc, nI hlc, lr, ro, a_ctorType, a_ctorFirst, a_ctorSecond, a_nodeKind, a_nodeArg, a_nodePos, a_nodeRow, b_nUp, a_rowFirst, b_rowSize, a_guardKind, a_guardA, a_guardB, b_holePos, b_holeType, b_holeUp, b_head, b_headType, b_binds, b_look, b_lookType, b_bound, b_hit, b_part)) (nI tt, nI rl, nI rt, ph, nI cc, nI rc, ro, nI nc, nI hlc, nI clc, nI sc, solM, livM, misF, nI qt, lr, a_ctorType, a_ctorFirst, a_ctorSecond, a_typeSize, a_typeCtors, a_rowFirst, a_rowSize, a_guardKind, a_guardA, a_guardB, a_clauseFirst, a_nodeKind, a_nodeArg, a_nodePos, a_nodeRow, a_altOf, a_altSide, a_nodeNew, a_after, a_holePos, a_holeType, a_holeOwner, a_holeSide, a_clauseRow, a_clauseNodes, a_clauseTests, a_testHead, a_clauseBind, a_litCount, a_lits, a_freshInt, a_stateMask, a_stateOpen, a_statePos, a_stateNext, a_child, a_bucketHead, a_pin, a_marked, a_queue, a_val, a_valType, a_bound) := by
  have hA' := hA
  obtain ⟨fr, sz, cf, hT, hN, hO, hV, hB, hG, h0, h1⟩ := hA
  by_cases c0 : ¬ ph = 2
  · exact br_f c0 (br_f c0 ⟨rfl, zz_in hA'⟩)
  have c0 := Classical.not_not.mp c0
  have cz : ph ≠ 0 := by rw [c0]; decide
  obtain ⟨g1, g2, g3, g4, g5⟩ := hG c0
  have R : ∀ LK LT HT PT, i_Rel (k + 4) (nI tt, nI rl, nI rt, ph, nI cc, nI rc, ro, nI nc, nI hlc, nI clc, nI sc, solM, livM, misF, nI qt, lr, a_ctorType, a_ctorFirst, a_ctorSecond, a_typeSize, a_typeCtors, a_rowFirst, a_rowSize, a_guardKind, a_guardA, a_guardB, a_clauseFirst, a_nodeKind, a_nodeArg, a_nodePos, a_nodeRow, a_altOf, a_altSide, a_nodeNew, a_after, a_holePos, a_holeType, a_holeOwner, a_holeSide, a_clauseRow, a_clauseNodes, a_clauseTests, a_testHead, a_clauseBind, a_litCount, a_lits, a_freshInt, a_stateMask, a_stateOpen, a_statePos, a_stateNext, a_child, a_bucketHead, a_pin, a_marked, a_queue, a_val, a_valType, a_bound) (nI tt, nI rl, nI rt, ph, nI cc, nI nc, nI rc, nI hlc, lr, ro, a_ctorType, a_ctorFirst, a_ctorSecond, a_nodeKind, a_nodeArg, a_nodePos, a_nodeRow, b_nUp, a_rowFirst, b_rowSize, a_guardKind, a_guardA, a_guardB, b_holePos, b_holeType, b_holeUp, b_head, b_headType, b_binds, LK, LT, b_bound, HT, PT) := fun LK LT HT PT => zz_in hA'
  have hm : (∃ u, gh_Sh (nI rt) (xc_f cc a_ctorFirst a_ctorSecond) (xc_n a_litCount a_typeSize) (xc_d a_litCount a_lits a_freshInt a_typeCtors) u ∧ ys_M a_guardKind (rl_RM a_clauseTests a_testHead cf) (rl_PP a_clauseTests a_testHead a_clauseNodes cf) (-1) rc u) ↔ misF ≠ 0 := by
    rw [g4]
    exact ⟨fun ⟨u, a, b⟩ => ⟨u, a, (rl_M0 hT hN u).mp b⟩, fun ⟨u, a, b⟩ => ⟨u, a, (rl_M0 hT hN u).mpr b⟩⟩
  refine br_t c0 (br_c (fun z => br_t c0 ?_) (fun z => br_t c0 ?_))
  · refine rl_search0 (ph := ph) (fr := fr) (sz := sz) (cf := cf) hT cz hN g1 (fun hno LK LT HT PT => br_t rfl ⟨rfl, R LK LT HT PT⟩) (fun LK LT HT PT a b c d => ?_)
    exact absurd z (hm.mp ⟨LK, a, c⟩)
  · refine rl_search0 (ph := ph) (fr := fr) (sz := sz) (cf := cf) hT cz hN g1 (fun hno LK LT HT PT => ?_) (fun LK LT HT PT a b c d => br_f (by decide) ⟨rfl, R LK LT HT PT⟩)
    obtain ⟨u, u1, u2⟩ := hm.mpr z
    exact absurd u2 (hno u u1)
theorem rl_closed (hO : rl_O rt cc rl rc nc hlc ro a_ctorType a_ctorFirst a_ctorSecond a_nodeKind a_nodeArg a_nodePos a_nodeRow b_nUp a_altOf a_altSide a_rowFirst b_rowSize a_holePos a_holeType a_holeOwner a_holeSide b_holePos b_holeType b_holeUp fr) (h1 : ro ≠ 0 → ph = 1) (h2 : ph = 2) : nc = fr rc ∧ ro = 0 ∧ hlc = 0 := by
  rcases hO with z | z
  · exact ⟨z.2.1, z.1, z.2.2⟩
  · have := h1 (by rw [z.1]; decide); rw [h2] at this; exact absurd this (by decide)
theorem vc_nodeVerdict (hA : rl_All tt rl rt cc ph a_ctorType a_ctorFirst a_ctorSecond a_typeSize a_typeCtors rc nc clc a_nodeKind a_nodeArg a_nodePos a_nodeRow b_nUp a_altOf a_altSide a_nodeNew a_rowFirst a_rowSize b_rowSize a_guardKind a_guardA a_guardB a_clauseFirst a_clauseRow a_clauseNodes a_clauseTests a_testHead a_clauseBind hlc ro a_holePos a_holeType a_holeOwner a_holeSide b_holePos b_holeType b_holeUp a_valType a_val b_headType b_head sc misF solM livM a_litCount a_lits a_freshInt a_stateMask a_stateOpen a_statePos a_child a_bound b_binds) (v1 : Int32) : wpX_nodeVerdict (fun r => wpY_nodeVerdict (fun r' v' => r' = r ∧ i_Rel (k + 4) (nI tt, nI rl, nI rt, ph, nI cc, nI rc, ro, nI nc, nI hlc, nI clc, nI sc, solM, livM, misF, nI qt, lr, a_ctorType, a_ctorFirst, a_ctorSecond, a_typeSize, a_typeCtors, a_rowFirst, a_rowSize, a_guardKind, a_guardA, a_guardB, a_clauseFirst, a_nodeKind, a_nodeArg, a_nodePos, a_nodeRow, a_altOf, a_altSide, a_nodeNew, a_after, a_holePos, a_holeType, a_holeOwner, a_holeSide, a_clauseRow, a_clauseNodes, a_clauseTests, a_testHead, a_clauseBind, a_litCount, a_lits, a_freshInt, a_stateMask, a_stateOpen, a_statePos, a_stateNext, a_child, a_bucketHead, a_pin, a_marked, a_queue, a_val, a_valType, a_bound) v') (nI tt, nI rl, nI rt, ph, nI cc, nI nc, nI rc, nI hlc, lr, ro, a_ctorType, a_ctorFirst, a_ctorSecond, a_nodeKind, a_nodeArg, a_nodePos, a_nodeRow, b_nUp, a_rowFirst, b_rowSize, a_guardKind, a_guardA, a_guardB, b_holePos, b_holeType, b_holeUp, b_head, b_headType, b_binds, b_look, b_lookType, b_bound, b_hit, b_part) v1) (nI tt, nI rl, nI rt, ph, nI cc, nI rc, ro, nI nc, nI hlc, nI clc, nI sc, solM, livM, misF, nI qt, lr, a_ctorType, a_ctorFirst, a_ctorSecond, a_typeSize, a_typeCtors, a_rowFirst, a_rowSize, a_guardKind, a_guardA, a_guardB, a_clauseFirst, a_nodeKind, a_nodeArg, a_nodePos, a_nodeRow, a_altOf, a_altSide, a_nodeNew, a_after, a_holePos, a_holeType, a_holeOwner, a_holeSide, a_clauseRow, a_clauseNodes, a_clauseTests, a_testHead, a_clauseBind, a_litCount, a_lits, a_freshInt, a_stateMask, a_stateOpen, a_statePos, a_stateNext, a_child, a_bucketHead, a_pin, a_marked, a_queue, a_val, a_valType, a_bound) v1 := by
  have hA' := hA
  obtain ⟨fr, sz, cf, hT, hN, hO, hV, hB, hG, h0, h1⟩ := hA
  by_cases c0 : ¬ ph = 2
  · exact br_f c0 (br_f c0 ⟨rfl, zz_in hA'⟩)
  have c0 := Classical.not_not.mp c0
  have cz : ph ≠ 0 := by rw [c0]; decide
  obtain ⟨g1, g2, g3, g4, g5⟩ := hG c0
  have R : ∀ LK LT HT PT, i_Rel (k + 4) (nI tt, nI rl, nI rt, ph, nI cc, nI rc, ro, nI nc, nI hlc, nI clc, nI sc, solM, livM, misF, nI qt, lr, a_ctorType, a_ctorFirst, a_ctorSecond, a_typeSize, a_typeCtors, a_rowFirst, a_rowSize, a_guardKind, a_guardA, a_guardB, a_clauseFirst, a_nodeKind, a_nodeArg, a_nodePos, a_nodeRow, a_altOf, a_altSide, a_nodeNew, a_after, a_holePos, a_holeType, a_holeOwner, a_holeSide, a_clauseRow, a_clauseNodes, a_clauseTests, a_testHead, a_clauseBind, a_litCount, a_lits, a_freshInt, a_stateMask, a_stateOpen, a_statePos, a_stateNext, a_child, a_bucketHead, a_pin, a_marked, a_queue, a_val, a_valType, a_bound) (nI tt, nI rl, nI rt, ph, nI cc, nI nc, nI rc, nI hlc, lr, ro, a_ctorType, a_ctorFirst, a_ctorSecond, a_nodeKind, a_nodeArg, a_nodePos, a_nodeRow, b_nUp, a_rowFirst, b_rowSize, a_guardKind, a_guardA, a_guardB, b_holePos, b_holeType, b_holeUp, b_head, b_headType, b_binds, LK, LT, b_bound, HT, PT) := fun LK LT HT PT => zz_in hA'
  refine br_t c0 (xw_isNode (fun z => br_t rfl (br_t c0 ?_)) (fun z0 z1 => br_f (by decide) ?_))
  · by_cases y : v1 < 0
    · exact br_t y ⟨rfl, zz_in hA'⟩
    · exact br_f y (br_f (Int32.not_lt.mpr (z.resolve_left y)) ⟨rfl, zz_in hA'⟩)
  · obtain ⟨n, hn, rfl⟩ := rl_ix z0 z1
    have hnc := hN.2.1
    obtain ⟨r, r1, r2, r3, r4⟩ := rl_noderow hN (rl_closed hO h1 c0).1 hn
    have zl : nI n < nI nc := nI_lt hn (by omega)
    refine xw_hasBit (by omega) (lc_br (fun hf => br_t c0 (br_f z0 (br_t zl ?_))) (fun hy => br_t c0 (br_f z0 (br_t zl ?_))))
    · refine rl_searchn (ph := ph) (fr := fr) (sz := sz) (cf := cf) hT cz hN g1 r1 r2 r3 (fun hno LK LT HT PT => br_t rfl ⟨rfl, R LK LT HT PT⟩) (fun LK LT HT PT a b c d => ?_)
      obtain ⟨c', x1, x2⟩ := c
      rw [(g5 n).mpr ⟨LK, c', a, x1, x2⟩] at hf
      exact absurd hf (by decide)
    · refine rl_searchn (ph := ph) (fr := fr) (sz := sz) (cf := cf) hT cz hN g1 r1 r2 r3 (fun hno LK LT HT PT => ?_) (fun LK LT HT PT a b c d => br_f (by decide) ⟨rfl, R LK LT HT PT⟩)
      exact absurd ((g5 n).mp hy) hno
theorem vc_rowVerdict (hA : rl_All tt rl rt cc ph a_ctorType a_ctorFirst a_ctorSecond a_typeSize a_typeCtors rc nc clc a_nodeKind a_nodeArg a_nodePos a_nodeRow b_nUp a_altOf a_altSide a_nodeNew a_rowFirst a_rowSize b_rowSize a_guardKind a_guardA a_guardB a_clauseFirst a_clauseRow a_clauseNodes a_clauseTests a_testHead a_clauseBind hlc ro a_holePos a_holeType a_holeOwner a_holeSide b_holePos b_holeType b_holeUp a_valType a_val b_headType b_head sc misF solM livM a_litCount a_lits a_freshInt a_stateMask a_stateOpen a_statePos a_child a_bound b_binds) (v1 : Int32) : wpX_rowVerdict (fun r => wpY_rowVerdict (fun r' v' => r' = r ∧ i_Rel (k + 4) (nI tt, nI rl, nI rt, ph, nI cc, nI rc, ro, nI nc, nI hlc, nI clc, nI sc, solM, livM, misF, nI qt, lr, a_ctorType, a_ctorFirst, a_ctorSecond, a_typeSize, a_typeCtors, a_rowFirst, a_rowSize, a_guardKind, a_guardA, a_guardB, a_clauseFirst, a_nodeKind, a_nodeArg, a_nodePos, a_nodeRow, a_altOf, a_altSide, a_nodeNew, a_after, a_holePos, a_holeType, a_holeOwner, a_holeSide, a_clauseRow, a_clauseNodes, a_clauseTests, a_testHead, a_clauseBind, a_litCount, a_lits, a_freshInt, a_stateMask, a_stateOpen, a_statePos, a_stateNext, a_child, a_bucketHead, a_pin, a_marked, a_queue, a_val, a_valType, a_bound) v') (nI tt, nI rl, nI rt, ph, nI cc, nI nc, nI rc, nI hlc, lr, ro, a_ctorType, a_ctorFirst, a_ctorSecond, a_nodeKind, a_nodeArg, a_nodePos, a_nodeRow, b_nUp, a_rowFirst, b_rowSize, a_guardKind, a_guardA, a_guardB, b_holePos, b_holeType, b_holeUp, b_head, b_headType, b_binds, b_look, b_lookType, b_bound, b_hit, b_part) v1) (nI tt, nI rl, nI rt, ph, nI cc, nI rc, ro, nI nc, nI hlc, nI clc, nI sc, solM, livM, misF, nI qt, lr, a_ctorType, a_ctorFirst, a_ctorSecond, a_typeSize, a_typeCtors, a_rowFirst, a_rowSize, a_guardKind, a_guardA, a_guardB, a_clauseFirst, a_nodeKind, a_nodeArg, a_nodePos, a_nodeRow, a_altOf, a_altSide, a_nodeNew, a_after, a_holePos, a_holeType, a_holeOwner, a_holeSide, a_clauseRow, a_clauseNodes, a_clauseTests, a_testHead, a_clauseBind, a_litCount, a_lits, a_freshInt, a_stateMask, a_stateOpen, a_statePos, a_stateNext, a_child, a_bucketHead, a_pin, a_marked, a_queue, a_val, a_valType, a_bound) v1 := by
  have hA' := hA
  obtain ⟨fr, sz, cf, hT, hN, hO, hV, hB, hG, h0, h1⟩ := hA
  by_cases c0 : ¬ ph = 2
  · exact br_f c0 (br_f c0 ⟨rfl, zz_in hA'⟩)
  have c0 := Classical.not_not.mp c0
  have cz : ph ≠ 0 := by rw [c0]; decide
  obtain ⟨g1, g2, g3, g4, g5⟩ := hG c0
  have R : ∀ LK LT HT PT, i_Rel (k + 4) (nI tt, nI rl, nI rt, ph, nI cc, nI rc, ro, nI nc, nI hlc, nI clc, nI sc, solM, livM, misF, nI qt, lr, a_ctorType, a_ctorFirst, a_ctorSecond, a_typeSize, a_typeCtors, a_rowFirst, a_rowSize, a_guardKind, a_guardA, a_guardB, a_clauseFirst, a_nodeKind, a_nodeArg, a_nodePos, a_nodeRow, a_altOf, a_altSide, a_nodeNew, a_after, a_holePos, a_holeType, a_holeOwner, a_holeSide, a_clauseRow, a_clauseNodes, a_clauseTests, a_testHead, a_clauseBind, a_litCount, a_lits, a_freshInt, a_stateMask, a_stateOpen, a_statePos, a_stateNext, a_child, a_bucketHead, a_pin, a_marked, a_queue, a_val, a_valType, a_bound) (nI tt, nI rl, nI rt, ph, nI cc, nI nc, nI rc, nI hlc, lr, ro, a_ctorType, a_ctorFirst, a_ctorSecond, a_nodeKind, a_nodeArg, a_nodePos, a_nodeRow, b_nUp, a_rowFirst, b_rowSize, a_guardKind, a_guardA, a_guardB, b_holePos, b_holeType, b_holeUp, b_head, b_headType, b_binds, LK, LT, b_bound, HT, PT) := fun LK LT HT PT => zz_in hA'
  refine br_t c0 (xw_isRow (fun z => br_t rfl (br_t c0 ?_)) (fun z0 z1 => br_f (by decide) ?_))
  · by_cases y : v1 < 0
    · exact br_t y ⟨rfl, zz_in hA'⟩
    · exact br_f y (br_f (Int32.not_lt.mpr (z.resolve_left y)) ⟨rfl, zz_in hA'⟩)
  · obtain ⟨r, hr, rfl⟩ := rl_ix z0 z1
    have hT1 := hT.1
    have hrl := hN.1
    have hnc := hN.2.1
    have zl : nI r < nI rc := nI_lt hr (by omega)
    have er : (nI r).toNatClampNeg = r := nI_clamp (by omega)
    have wr : vp_in (nI r) 8 := vp_in_nI (by omega) (by omega)
    obtain ⟨q1, q2, q3, q4, q5, q6, q7, _⟩ := hN.2.2.2.2.1 r hr
    have hfr := rl_frle hN (r + 1) (by omega)
    have hpos := tr_pos q6
    -- Y's side
    have ylive : ∀ n, fr r ≤ n → n < fr r + sz r → ∀ LK0 LT0 HT0 PT0 (post : Int32 → SY → Prop), (bi_L livM n = false → ∀ LK LT HT PT, post 0 (nI tt, nI rl, nI rt, ph, nI cc, nI nc, nI rc, nI hlc, lr, ro, a_ctorType, a_ctorFirst, a_ctorSecond, a_nodeKind, a_nodeArg, a_nodePos, a_nodeRow, b_nUp, a_rowFirst, b_rowSize, a_guardKind, a_guardA, a_guardB, b_holePos, b_holeType, b_holeUp, b_head, b_headType, b_binds, LK, LT, b_bound, HT, PT)) → (bi_L livM n = true → ∀ LK LT HT PT, post 1 (nI tt, nI rl, nI rt, ph, nI cc, nI nc, nI rc, nI hlc, lr, ro, a_ctorType, a_ctorFirst, a_ctorSecond, a_nodeKind, a_nodeArg, a_nodePos, a_nodeRow, b_nUp, a_rowFirst, b_rowSize, a_guardKind, a_guardA, a_guardB, b_holePos, b_holeType, b_holeUp, b_head, b_headType, b_binds, LK, LT, b_bound, HT, PT)) → wpY_search post (nI tt, nI rl, nI rt, ph, nI cc, nI nc, nI rc, nI hlc, lr, ro, a_ctorType, a_ctorFirst, a_ctorSecond, a_nodeKind, a_nodeArg, a_nodePos, a_nodeRow, b_nUp, a_rowFirst, b_rowSize, a_guardKind, a_guardA, a_guardB, b_holePos, b_holeType, b_holeUp, b_head, b_headType, b_binds, LK0, LT0, b_bound, HT0, PT0) (nI n) := by
      intro n n1 n2 LK0 LT0 HT0 PT0 post ha hb
      refine rl_searchn (ph := ph) (fr := fr) (sz := sz) (cf := cf) hT cz hN g1 hr n1 n2 (fun hno LK LT HT PT => ha ?_ LK LT HT PT) (fun LK LT HT PT a b c d => hb ?_ LK LT HT PT)
      · cases hq : bi_L livM n with
        | false => rfl
        | true => exact absurd ((g5 n).mp hq) hno
      · obtain ⟨c', x1, x2⟩ := c
        exact (g5 n).mpr ⟨LK, c', a, x1, x2⟩
    have y43 : ∀ (post : Int32 → SY → Prop), ((∃ i, i < sz r ∧ bi_L livM (fr r + i) = false) → ∀ LK LT HT PT, post 1 (nI tt, nI rl, nI rt, ph, nI cc, nI nc, nI rc, nI hlc, lr, ro, a_ctorType, a_ctorFirst, a_ctorSecond, a_nodeKind, a_nodeArg, a_nodePos, a_nodeRow, b_nUp, a_rowFirst, b_rowSize, a_guardKind, a_guardA, a_guardB, b_holePos, b_holeType, b_holeUp, b_head, b_headType, b_binds, LK, LT, b_bound, HT, PT)) → ((∀ i, i < sz r → bi_L livM (fr r + i) = true) → ∀ LK LT HT PT, post 2 (nI tt, nI rl, nI rt, ph, nI cc, nI nc, nI rc, nI hlc, lr, ro, a_ctorType, a_ctorFirst, a_ctorSecond, a_nodeKind, a_nodeArg, a_nodePos, a_nodeRow, b_nUp, a_rowFirst, b_rowSize, a_guardKind, a_guardA, a_guardB, b_holePos, b_holeType, b_holeUp, b_head, b_headType, b_binds, LK, LT, b_bound, HT, PT)) →
        ∀ d i LK LT HT PT, i + d = sz r → (∀ j, j < i → bi_L livM (fr r + j) = true) → wY_rowVerdict_43 post (nI r) (d + 1) (nI i) (nI tt) (nI rl) (nI rt) ph (nI cc) (nI nc) (nI rc) (nI hlc) lr ro a_ctorType a_ctorFirst a_ctorSecond a_nodeKind a_nodeArg a_nodePos a_nodeRow b_nUp a_rowFirst b_rowSize a_guardKind a_guardA a_guardB b_holePos b_holeType b_holeUp b_head b_headType b_binds LK LT b_bound HT PT := by
      intro post hp1 hp2 d
      induction d with
      | zero =>
        intro i LK LT HT PT hi hj
        refine ⟨wr, ?_⟩
        rw [er, q4]
        exact br_t (nI_le (by omega) (by omega)) (hp2 (fun j hj' => hj j (by omega)) LK LT HT PT)
      | succ d ih =>
        intro i LK LT HT PT hi hj
        refine ⟨wr, ?_⟩
        rw [er, q4, q2, nI_add]
        refine br_f (nI_ge (by omega) (by omega)) ⟨wr, ylive (fr r + i) (by omega) (by omega) LK LT HT PT _ (fun hf LK' LT' HT' PT' => br_t rfl (hp1 ⟨i, by omega, hf⟩ LK' LT' HT' PT')) (fun hy LK' LT' HT' PT' => br_f (by decide) (nm_r (nI_1 i) (ih (i + 1) LK' LT' HT' PT' (by omega) (lt_s hj hy))))⟩
    refine ⟨wr, ?_⟩
    rw [er, q2]
    refine xw_hasBit (by omega) (lc_br (fun hf => br_t c0 (br_f z0 (br_t zl ⟨wr, ?_⟩))) (fun hy => ?_))
    · rw [er, q2]
      exact ylive (fr r) (by omega) (by omega) b_look b_lookType b_hit b_part _ (fun _ LK LT HT PT => br_t rfl ⟨rfl, R LK LT HT PT⟩) (fun h LK LT HT PT => by rw [hf] at h; exact absurd h (by decide))
    · have ytop : ∀ (post : Int32 → SY → Prop), ((∃ i, i < sz r ∧ bi_L livM (fr r + i) = false) → ∀ LK LT HT PT, post 1 (nI tt, nI rl, nI rt, ph, nI cc, nI nc, nI rc, nI hlc, lr, ro, a_ctorType, a_ctorFirst, a_ctorSecond, a_nodeKind, a_nodeArg, a_nodePos, a_nodeRow, b_nUp, a_rowFirst, b_rowSize, a_guardKind, a_guardA, a_guardB, b_holePos, b_holeType, b_holeUp, b_head, b_headType, b_binds, LK, LT, b_bound, HT, PT)) → ((∀ i, i < sz r → bi_L livM (fr r + i) = true) → ∀ LK LT HT PT, post 2 (nI tt, nI rl, nI rt, ph, nI cc, nI nc, nI rc, nI hlc, lr, ro, a_ctorType, a_ctorFirst, a_ctorSecond, a_nodeKind, a_nodeArg, a_nodePos, a_nodeRow, b_nUp, a_rowFirst, b_rowSize, a_guardKind, a_guardA, a_guardB, b_holePos, b_holeType, b_holeUp, b_head, b_headType, b_binds, LK, LT, b_bound, HT, PT)) → wpY_rowVerdict post (nI tt, nI rl, nI rt, ph, nI cc, nI nc, nI rc, nI hlc, lr, ro, a_ctorType, a_ctorFirst, a_ctorSecond, a_nodeKind, a_nodeArg, a_nodePos, a_nodeRow, b_nUp, a_rowFirst, b_rowSize, a_guardKind, a_guardA, a_guardB, b_holePos, b_holeType, b_holeUp, b_head, b_headType, b_binds, b_look, b_lookType, b_bound, b_hit, b_part) (nI r) := by
        intro post hp1 hp2
        refine br_t c0 (br_f z0 (br_t zl ⟨wr, ?_⟩))
        rw [er, q2]
        refine ylive (fr r) (by omega) (by omega) b_look b_lookType b_hit b_part _ (fun h => by rw [hy] at h; exact absurd h (by decide)) (fun _ LK LT HT PT => br_f (by decide) ⟨sz r, ?_⟩)
        obtain ⟨d, ed⟩ : ∃ d, sz r = d + 1 := ⟨sz r - 1, by omega⟩
        rw [ed]
        refine y43 post hp1 hp2 d 1 LK LT HT PT (by omega) (fun j hj => ?_)
        rw [show j = 0 by omega]; exact hy
      have loop : ∀ d i, i + d = sz r → (∀ j, j < i → bi_L livM (fr r + j) = true) → wX_rowVerdict_43 (fun x => wpY_rowVerdict (fun r' v' => r' = x ∧ i_Rel (k + 4) (nI tt, nI rl, nI rt, ph, nI cc, nI rc, ro, nI nc, nI hlc, nI clc, nI sc, solM, livM, misF, nI qt, lr, a_ctorType, a_ctorFirst, a_ctorSecond, a_typeSize, a_typeCtors, a_rowFirst, a_rowSize, a_guardKind, a_guardA, a_guardB, a_clauseFirst, a_nodeKind, a_nodeArg, a_nodePos, a_nodeRow, a_altOf, a_altSide, a_nodeNew, a_after, a_holePos, a_holeType, a_holeOwner, a_holeSide, a_clauseRow, a_clauseNodes, a_clauseTests, a_testHead, a_clauseBind, a_litCount, a_lits, a_freshInt, a_stateMask, a_stateOpen, a_statePos, a_stateNext, a_child, a_bucketHead, a_pin, a_marked, a_queue, a_val, a_valType, a_bound) v') (nI tt, nI rl, nI rt, ph, nI cc, nI nc, nI rc, nI hlc, lr, ro, a_ctorType, a_ctorFirst, a_ctorSecond, a_nodeKind, a_nodeArg, a_nodePos, a_nodeRow, b_nUp, a_rowFirst, b_rowSize, a_guardKind, a_guardA, a_guardB, b_holePos, b_holeType, b_holeUp, b_head, b_headType, b_binds, b_look, b_lookType, b_bound, b_hit, b_part) (nI r)) (nI r) (nI tt) (nI rl) (nI rt) ph (nI cc) (nI rc) ro (nI nc) (nI hlc) (nI clc) (nI sc) solM livM misF (nI qt) lr a_ctorType a_ctorFirst a_ctorSecond a_typeSize a_typeCtors a_rowFirst a_rowSize a_guardKind a_guardA a_guardB a_clauseFirst a_nodeKind a_nodeArg a_nodePos a_nodeRow a_altOf a_altSide a_nodeNew a_after a_holePos a_holeType a_holeOwner a_holeSide a_clauseRow a_clauseNodes a_clauseTests a_testHead a_clauseBind a_litCount a_lits a_freshInt a_stateMask a_stateOpen a_statePos a_stateNext a_child a_bucketHead a_pin a_marked a_queue a_val a_valType a_bound (d + 1) (nI i) := by
        intro d
        induction d with
        | zero =>
          intro i hi hj
          refine ⟨wr, ?_⟩
          rw [er, q3]
          refine br_t (nI_le (by omega) (by omega)) (ytop _ (fun ⟨j, j1, j2⟩ => ?_) (fun _ LK LT HT PT => ⟨rfl, R LK LT HT PT⟩))
          rw [hj j (by omega)] at j2; exact absurd j2 (by decide)
        | succ d ih =>
          intro i hi hj
          refine ⟨wr, ?_⟩
          rw [er, q3, q2, nI_add]
          refine br_f (nI_ge (by omega) (by omega)) ⟨wr, xw_hasBit (by omega) (lc_br (fun hf => ytop _ (fun _ LK LT HT PT => ⟨rfl, R LK LT HT PT⟩) (fun hall => ?_)) (fun ht => nm_r (nI_1 i) (ih (i + 1) (by omega) (lt_s hj ht))))⟩
          rw [hall i (by omega)] at hf; exact absurd hf (by decide)
      exact ⟨sz r + 1, loop (sz r) 0 (by omega) (fun j hj => by omega)⟩
end
end
section
section
variable {tt rl rt cc rc nc hlc clc sc qt : Nat} {ph ro misF lr : Int32} {solM livM : Int64} {a_ctorType a_ctorFirst a_ctorSecond a_typeSize a_typeCtors a_rowFirst a_rowSize a_guardKind a_guardA a_guardB a_clauseFirst a_nodeKind a_nodeArg a_nodePos a_nodeRow a_altOf a_altSide a_nodeNew a_after a_holePos a_holeType a_holeOwner a_holeSide a_clauseRow a_clauseTests a_testHead a_clauseBind a_litCount a_lits a_freshInt a_stateOpen a_statePos a_stateNext a_child a_bucketHead a_pin a_marked a_queue a_val a_valType a_bound : Nat → Int32} {a_clauseNodes a_stateMask : Nat → Int64} {b_nUp b_rowSize b_holePos b_holeType b_holeUp b_head b_headType b_binds b_look b_lookType b_bound b_hit b_part : Nat → Int32}
variable {k : Nat} {fr sz cf : Nat → Nat}
theorem rl_compl (hT : rl_T tt rl rt cc ph a_ctorType a_ctorFirst a_ctorSecond a_typeSize a_typeCtors) (hV : rl_V rt cc ph a_ctorType a_ctorFirst a_ctorSecond a_valType a_val b_headType b_head) (hf : xv_full rt cc a_ctorFirst a_ctorSecond a_valType a_val) : ∀ p, 1 ≤ p → p ≤ 7 → a_valType p = gh_ty (nI rt) (xc_f cc a_ctorFirst a_ctorSecond) a_val p := by
  intro p
  induction p using Nat.strongRecOn with
  | _ p ih =>
    intro p1 p7
    have hpl : xv_pl rt cc a_ctorFirst a_ctorSecond a_valType a_val p = gh_ty (nI rt) (xc_f cc a_ctorFirst a_ctorSecond) a_val p := by
      unfold xv_pl
      by_cases q : p = 1
      · subst q; rw [if_pos rfl, gh_ty1]
      · rw [if_neg q, gh_ty_step (by omega) p7, ih (p / 2) (by omega) (by omega) (by omega)]
    by_cases z : a_valType p = -1
    · rw [← hpl, z]
      apply Classical.byContradiction
      intro y
      exact hf p p1 p7 (fun w => y w.symm) z
    · rw [(hV.1 p p1 p7).2.2.1 z, hpl]
/-- values that agree on what is there match alike -/
theorem rl_mteq (hN : rl_N rt cc rl rc nc clc a_ctorType a_ctorFirst a_ctorSecond a_nodeKind a_nodeArg a_nodePos a_nodeRow b_nUp a_altOf a_altSide a_nodeNew a_rowFirst a_rowSize b_rowSize a_guardKind a_guardA a_guardB a_clauseFirst a_clauseRow a_clauseNodes a_clauseTests a_testHead a_clauseBind fr sz cf) {v w : Nat → Int32} (h : ∀ p, 1 ≤ p → p ≤ 7 → gh_ty (nI rt) (xc_f cc a_ctorFirst a_ctorSecond) v p ≠ -1 → w p = v p) {c : Nat} (hc : c < clc) : gh_Mt (xc_t a_clauseTests) (xc_h a_testHead) v c ↔ gh_Mt (xc_t a_clauseTests) (xc_h a_testHead) w c := by
  have h5 := rl_C5 hN
  have key : ∀ x : Nat → Int32, (∀ p, 1 ≤ p → p ≤ 7 → xc_t a_clauseTests c p = true → (∀ a, 1 ≤ a → a < p → tr_dsc a p → v a = xc_h a_testHead c a) → gh_ty (nI rt) (xc_f cc a_ctorFirst a_ctorSecond) v p ≠ -1) := by
    intro _ p p1 p7 ht ha
    have := rl_hok (cc := cc) (nc := nc) (a_ctorType := a_ctorType) (a_nodeKind := a_nodeKind) (a_nodeArg := a_nodeArg) (a_nodePos := a_nodePos) _ _ _ (h5 c hc p p1 p7 ht).2
    rw [gh_tyeq p1 p7 (v := v) (w := xc_h a_testHead c) ha]
    exact this
  constructor
  · intro hm p p1 p7 ht
    have hp := key v p p1 p7 ht (fun a a1 a2 a3 => hm a a1 (by omega) (gh_anc h5 hc p1 p7 ht a1 a3))
    rw [h p p1 p7 hp]; exact hm p p1 p7 ht
  · intro hm p
    induction p using Nat.strongRecOn with
    | _ p ih =>
      intro p1 p7 ht
      have hp := key v p p1 p7 ht (fun a a1 a2 a3 => ih a a2 a1 (by omega) (gh_anc h5 hc p1 p7 ht a1 a3))
      rw [← h p p1 p7 hp]; exact hm p p1 p7 ht
/-- what a clause that matches binds is there -/
theorem rl_bnd (hN : rl_N rt cc rl rc nc clc a_ctorType a_ctorFirst a_ctorSecond a_nodeKind a_nodeArg a_nodePos a_nodeRow b_nUp a_altOf a_altSide a_nodeNew a_rowFirst a_rowSize b_rowSize a_guardKind a_guardA a_guardB a_clauseFirst a_clauseRow a_clauseNodes a_clauseTests a_testHead a_clauseBind fr sz cf) {v : Nat → Int32} {c r : Nat} (hr : r < rc) (c1 : cf r ≤ c) (c2 : c < cf (r + 1)) (hm : gh_Mt (xc_t a_clauseTests) (xc_h a_testHead) v c) : ∀ x, x < 4 → a_clauseBind (c * 4 + x) = 0 ∨ ∃ p, 1 ≤ p ∧ p ≤ 7 ∧ a_clauseBind (c * 4 + x) = nI p ∧ gh_ty (nI rt) (xc_f cc a_ctorFirst a_ctorSecond) v p ≠ -1 := by
  obtain ⟨_, _, _, _, _, _, _, _, _, _, _, _, q13⟩ := hN.2.2.2.2.1 r hr
  obtain ⟨f1, f2, f3, f4, f5⟩ := q13
  have hcl := (rl_cfle hN (r + 1) (by omega)).2
  have h5 := rl_C5 hN
  intro x hx
  rw [f3 c c1 c2 x hx]
  have key : ∀ j, xr_bnd a_nodeKind a_nodeArg a_nodePos (bi_L (a_clauseNodes c)) (fr r) j x = 0 ∨ ∃ n, bi_L (a_clauseNodes c) n = true ∧ xr_bnd a_nodeKind a_nodeArg a_nodePos (bi_L (a_clauseNodes c)) (fr r) j x = a_nodePos n := by
    intro j
    induction j with
    | zero => exact Or.inl rfl
    | succ j ih =>
      rw [xr_bnd]
      split
      · rename_i z; exact Or.inr ⟨_, z.1, rfl⟩
      · exact ih
  rcases key (sz r) with z | ⟨n, n1, n2⟩
  · exact Or.inl z
  · obtain ⟨p, p1, p7, p2, p3, p4⟩ := f4 c c1 c2 n n1
    refine Or.inr ⟨p, p1, p7, n2.trans p2, ?_⟩
    rw [gh_tyeq p1 p7 (w := xc_h a_testHead c) (fun a a1 a2 a3 => ?_)]
    · exact p4
    · have ht : xc_t a_clauseTests c a = true := by
        have t2 := p3 (by omega)
        refine gh_anc h5 (by omega) (p := p / 2) (by omega) (by omega) t2 a1 ?_
        unfold tr_dsc at *; omega
      exact hm a a1 (by omega) ht
theorem rl_gh {v w bd bd' : Nat → Int32} {r : Nat} (hg : gd_ok a_guardKind a_guardA a_guardB r) (hb : ∀ x, x < 4 → bd' x = bd x) (hv : ∀ x, x < 4 → bd x = 0 ∨ w (bd x).toNatClampNeg = v (bd x).toNatClampNeg) : gd_h a_guardKind a_guardA a_guardB bd' w r ↔ gd_h a_guardKind a_guardA a_guardB bd v r := by
  obtain ⟨g1, ⟨a, a4, ea⟩, g3⟩ := hg
  have eA : (a_guardA r).toNatClampNeg = a := by rw [ea]; exact nI_clamp (by omega)
  unfold gd_h
  rw [eA, hb a a4]
  by_cases k2 : a_guardKind r = 2
  · obtain ⟨b, b4, eb⟩ := g3 k2
    have eB : (a_guardB r).toNatClampNeg = b := by rw [eb]; exact nI_clamp (by omega)
    rw [eB, hb b b4]
    constructor
    · rintro (z | ⟨z1, z2, z3⟩ | ⟨z1, z2, z3, z4⟩)
      · exact Or.inl z
      · exact Or.inr (Or.inl ⟨z1, z2, by rw [← (hv a a4).resolve_left z2]; exact z3⟩)
      · exact Or.inr (Or.inr ⟨z1, z2, z3, by rw [← (hv a a4).resolve_left z2, ← (hv b b4).resolve_left z3]; exact z4⟩)
    · rintro (z | ⟨z1, z2, z3⟩ | ⟨z1, z2, z3, z4⟩)
      · exact Or.inl z
      · exact Or.inr (Or.inl ⟨z1, z2, by rw [(hv a a4).resolve_left z2]; exact z3⟩)
      · exact Or.inr (Or.inr ⟨z1, z2, z3, by rw [(hv a a4).resolve_left z2, (hv b b4).resolve_left z3]; exact z4⟩)
  · constructor
    · rintro (z | ⟨z1, z2, z3⟩ | ⟨z1, _⟩)
      · exact Or.inl z
      · exact Or.inr (Or.inl ⟨z1, z2, by rw [← (hv a a4).resolve_left z2]; exact z3⟩)
      · exact absurd z1 k2
    · rintro (z | ⟨z1, z2, z3⟩ | ⟨z1, _⟩)
      · exact Or.inl z
      · exact Or.inr (Or.inl ⟨z1, z2, by rw [(hv a a4).resolve_left z2]; exact z3⟩)
      · exact absurd z1 k2
def rl_fst (T TH : Nat → Int32) (cf : Nat → Nat) (v : Nat → Int32) (r c : Nat) : Prop := cf r ≤ c ∧ c < cf (r + 1) ∧ gh_Mt (xc_t T) (xc_h TH) v c ∧ ∀ c', cf r ≤ c' → c' < c → ¬ gh_Mt (xc_t T) (xc_h TH) v c'
theorem rl_stand {post : Int32 → SY → Prop} {r : Nat} {lr' : Int32} {BD0 : Nat → Int32} (hT : rl_T tt rl rt cc ph a_ctorType a_ctorFirst a_ctorSecond a_typeSize a_typeCtors) (hN : rl_N rt cc rl rc nc clc a_ctorType a_ctorFirst a_ctorSecond a_nodeKind a_nodeArg a_nodePos a_nodeRow b_nUp a_altOf a_altSide a_nodeNew a_rowFirst a_rowSize b_rowSize a_guardKind a_guardA a_guardB a_clauseFirst a_clauseRow a_clauseNodes a_clauseTests a_testHead a_clauseBind fr sz cf) (hV : rl_V rt cc ph a_ctorType a_ctorFirst a_ctorSecond a_valType a_val b_headType b_head) (hf : xv_full rt cc a_ctorFirst a_ctorSecond a_valType a_val) (hr : r < rc)
    (h0 : (¬ (rl_RM a_clauseTests a_testHead cf) r a_val) → ∀ LK HT PT BD, post 0 (nI tt, nI rl, nI rt, ph, nI cc, nI nc, nI rc, nI hlc, lr', ro, a_ctorType, a_ctorFirst, a_ctorSecond, a_nodeKind, a_nodeArg, a_nodePos, a_nodeRow, b_nUp, a_rowFirst, b_rowSize, a_guardKind, a_guardA, a_guardB, b_holePos, b_holeType, b_holeUp, b_head, b_headType, BD0, LK, b_lookType, BD, HT, PT))
    (h1 : ∀ c, rl_fst a_clauseTests a_testHead cf a_val r c → ¬ gd_h a_guardKind a_guardA a_guardB (fun x => a_clauseBind (c * 4 + x)) a_val r → ∀ LK HT PT BD, post 1 (nI tt, nI rl, nI rt, ph, nI cc, nI nc, nI rc, nI hlc, lr', ro, a_ctorType, a_ctorFirst, a_ctorSecond, a_nodeKind, a_nodeArg, a_nodePos, a_nodeRow, b_nUp, a_rowFirst, b_rowSize, a_guardKind, a_guardA, a_guardB, b_holePos, b_holeType, b_holeUp, b_head, b_headType, BD0, LK, b_lookType, BD, HT, PT))
    (h2 : ∀ c, rl_fst a_clauseTests a_testHead cf a_val r c → gd_h a_guardKind a_guardA a_guardB (fun x => a_clauseBind (c * 4 + x)) a_val r → ∀ LK HT PT BD, (∀ x, x < 4 → BD x = a_clauseBind (c * 4 + x)) → post 2 (nI tt, nI rl, nI rt, ph, nI cc, nI nc, nI rc, nI hlc, lr', ro, a_ctorType, a_ctorFirst, a_ctorSecond, a_nodeKind, a_nodeArg, a_nodePos, a_nodeRow, b_nUp, a_rowFirst, b_rowSize, a_guardKind, a_guardA, a_guardB, b_holePos, b_holeType, b_holeUp, b_head, b_headType, BD0, LK, b_lookType, BD, HT, PT)) : wpY_stand post (nI tt, nI rl, nI rt, ph, nI cc, nI nc, nI rc, nI hlc, lr', ro, a_ctorType, a_ctorFirst, a_ctorSecond, a_nodeKind, a_nodeArg, a_nodePos, a_nodeRow, b_nUp, a_rowFirst, b_rowSize, a_guardKind, a_guardA, a_guardB, b_holePos, b_holeType, b_holeUp, b_head, b_headType, BD0, b_look, b_lookType, b_bound, b_hit, b_part) (nI r) := by
  have hT1 := hT.1
  have hrl := hN.1
  have hnc := hN.2.1
  obtain ⟨q1, q2, q3, q4, q5, q6, q7, q8, q9, q10, q11, q12, q13⟩ := hN.2.2.2.2.1 r hr
  have hfr := rl_frle hN (r + 1) (by omega)
  have hcl := (rl_cfle hN (r + 1) (by omega)).2
  have hlow : tr_low [((1, nI rt, -1, -1, 0) : tr_H)] := by intro g hg; simp at hg; rw [hg]; exact ⟨by show 1 ≤ 1; omega, by show 1 ≤ 7; omega⟩
  refine yw_stand (by omega) q2 q4 (tr_pos q6) (by omega) (fun n a b => tr_up _ _ _ q6 n a b) (fun n a b => hN.2.2.2.2.2.2.2.2.2 n (by omega)) (fun n a b k4 => ?_) q8 (fun LK HT PT BD ans hLK hH hP hans => ?_)
  · obtain ⟨dk, hk, k1, k7, Hk, hle⟩ := tr_sub2 _ _ _ hlow q6 n a b
    exact (tr_cases Hk).1.2.2.2.2.2.2.2 k4
  · have hvt := rl_compl hT hV hf
    have agr : ∀ p, 1 ≤ p → p ≤ 7 → gh_ty (nI rt) (xc_f cc a_ctorFirst a_ctorSecond) a_val p ≠ -1 → LK p = a_val p := by
      intro p p1 p7 hp
      rw [hLK p p1 p7]
      exact (hV.1 p p1 p7).2.1 (by rw [hvt p p1 p7]; exact hp)
    have mteq : ∀ c, cf r ≤ c → c < cf (r + 1) → (gh_Mt (xc_t a_clauseTests) (xc_h a_testHead) a_val c ↔ gh_Mt (xc_t a_clauseTests) (xc_h a_testHead) LK c) := fun c a b => rl_mteq hN agr (by omega)
    obtain ⟨s1, s2⟩ := q13.2.2.2.2 LK _ _ hH hP
    rcases hans with ⟨z, rfl⟩ | ⟨z, hBD, hg⟩
    · refine h0 ?_ LK HT PT BD
      rintro ⟨c, c1, c2, c3⟩
      exact (s1.mpr ⟨c, c1, c2, (mteq c c1 c2).mp c3⟩) z
    · obtain ⟨c, ⟨c1, c2, c3⟩, c4⟩ := pk_least (fun c => cf r ≤ c ∧ c < cf (r + 1) ∧ gh_Mt (xc_t a_clauseTests) (xc_h a_testHead) LK c) (s1.mp z)
      have hfst : rl_fst a_clauseTests a_testHead cf a_val r c := ⟨c1, c2, (mteq c c1 c2).mpr c3, fun c' a b m => c4 c' b ⟨a, by omega, (mteq c' a (by omega)).mp m⟩⟩
      have hQ := s2 c c1 c2 c3 (fun c' a b m => c4 c' b ⟨a, by omega, m⟩)
      have hBD' : ∀ x, x < 4 → BD x = a_clauseBind (c * 4 + x) := by
        intro x hx
        rw [hBD x hx, q13.2.2.1 c c1 c2 x hx]
        refine xr_bnd_c _ (fun n n1 n2 => ?_)
        cases hb : bi_L (a_clauseNodes c) n with
        | true => exact lc_dt.mpr ((hQ n n1 n2).mpr hb)
        | false => exact lc_df.mpr (fun y => by rw [(hQ n n1 n2).mp y] at hb; exact absurd hb (by decide))
      have hgq : gd_h a_guardKind a_guardA a_guardB BD LK r ↔ gd_h a_guardKind a_guardA a_guardB (fun x => a_clauseBind (c * 4 + x)) a_val r := by
        refine rl_gh q8 hBD' (fun x hx => ?_)
        rcases rl_bnd hN hr c1 c2 hfst.2.2.1 x hx with y | ⟨p, p1, p7, p2, p3⟩
        · exact Or.inl y
        · right
          rw [p2, nI_clamp (by omega)]
          exact agr p p1 p7 p3
      rcases hg with ⟨y, rfl⟩ | ⟨y, rfl⟩
      · exact h2 c hfst (hgq.mp y) LK HT PT BD hBD'
      · exact h1 c hfst (fun w => y (hgq.mpr w)) LK HT PT BD
theorem rl_guard (hT : rl_T tt rl rt cc ph a_ctorType a_ctorFirst a_ctorSecond a_typeSize a_typeCtors) (hN : rl_N rt cc rl rc nc clc a_ctorType a_ctorFirst a_ctorSecond a_nodeKind a_nodeArg a_nodePos a_nodeRow b_nUp a_altOf a_altSide a_nodeNew a_rowFirst a_rowSize b_rowSize a_guardKind a_guardA a_guardB a_clauseFirst a_clauseRow a_clauseNodes a_clauseTests a_testHead a_clauseBind fr sz cf) {post : Int32 → Prop} {c r : Nat} (hr : r < rc) (c1 : cf r ≤ c) (c2 : c < cf (r + 1)) (h : post (lc_b (lc_d (gd_h a_guardKind a_guardA a_guardB (fun x => a_clauseBind (c * 4 + x)) a_val r)))) : wpX_guardHolds post (nI tt, nI rl, nI rt, ph, nI cc, nI rc, ro, nI nc, nI hlc, nI clc, nI sc, solM, livM, misF, nI qt, lr, a_ctorType, a_ctorFirst, a_ctorSecond, a_typeSize, a_typeCtors, a_rowFirst, a_rowSize, a_guardKind, a_guardA, a_guardB, a_clauseFirst, a_nodeKind, a_nodeArg, a_nodePos, a_nodeRow, a_altOf, a_altSide, a_nodeNew, a_after, a_holePos, a_holeType, a_holeOwner, a_holeSide, a_clauseRow, a_clauseNodes, a_clauseTests, a_testHead, a_clauseBind, a_litCount, a_lits, a_freshInt, a_stateMask, a_stateOpen, a_statePos, a_stateNext, a_child, a_bucketHead, a_pin, a_marked, a_queue, a_val, a_valType, a_bound) (nI c) := by
  have hT1 := hT.1
  have hrl := hN.1
  have hclc := rl_clc hN
  obtain ⟨x1, x2, x3, x4⟩ := rl_xr hT hN hr c1 c2
  obtain ⟨q1, q2, q3, q4, q5, q6, q7, q8, q9, q10, q11, q12, q13⟩ := hN.2.2.2.2.1 r hr
  refine xw_guard (by omega) (by omega) x1 q8 (fun x hx => ?_) h
  obtain ⟨f1, f2, f3, f4, f5⟩ := q13
  rw [f3 c c1 c2 x hx]
  have key : ∀ j, xr_bnd a_nodeKind a_nodeArg a_nodePos (bi_L (a_clauseNodes c)) (fr r) j x = 0 ∨ ∃ n, bi_L (a_clauseNodes c) n = true ∧ xr_bnd a_nodeKind a_nodeArg a_nodePos (bi_L (a_clauseNodes c)) (fr r) j x = a_nodePos n := by
    intro j
    induction j with
    | zero => exact Or.inl rfl
    | succ j ih =>
      rw [xr_bnd]
      split
      · rename_i z; exact Or.inr ⟨_, z.1, rfl⟩
      · exact ih
  rcases key (sz r) with z | ⟨n, n1, n2⟩
  · exact Or.inl z
  · obtain ⟨p, p1, p7, p2, _⟩ := f4 c c1 c2 n n1
    exact Or.inr ⟨p, p1, p7, n2.trans p2⟩
theorem vc_rowMatches (hA : rl_All tt rl rt cc ph a_ctorType a_ctorFirst a_ctorSecond a_typeSize a_typeCtors rc nc clc a_nodeKind a_nodeArg a_nodePos a_nodeRow b_nUp a_altOf a_altSide a_nodeNew a_rowFirst a_rowSize b_rowSize a_guardKind a_guardA a_guardB a_clauseFirst a_clauseRow a_clauseNodes a_clauseTests a_testHead a_clauseBind hlc ro a_holePos a_holeType a_holeOwner a_holeSide b_holePos b_holeType b_holeUp a_valType a_val b_headType b_head sc misF solM livM a_litCount a_lits a_freshInt a_stateMask a_stateOpen a_statePos a_child a_bound b_binds) (v1 : Int32) : wpX_rowMatches (fun r => wpY_rowMatches (fun r' v' => r' = r ∧ i_Rel (k + 4) (nI tt, nI rl, nI rt, ph, nI cc, nI rc, ro, nI nc, nI hlc, nI clc, nI sc, solM, livM, misF, nI qt, lr, a_ctorType, a_ctorFirst, a_ctorSecond, a_typeSize, a_typeCtors, a_rowFirst, a_rowSize, a_guardKind, a_guardA, a_guardB, a_clauseFirst, a_nodeKind, a_nodeArg, a_nodePos, a_nodeRow, a_altOf, a_altSide, a_nodeNew, a_after, a_holePos, a_holeType, a_holeOwner, a_holeSide, a_clauseRow, a_clauseNodes, a_clauseTests, a_testHead, a_clauseBind, a_litCount, a_lits, a_freshInt, a_stateMask, a_stateOpen, a_statePos, a_stateNext, a_child, a_bucketHead, a_pin, a_marked, a_queue, a_val, a_valType, a_bound) v') (nI tt, nI rl, nI rt, ph, nI cc, nI nc, nI rc, nI hlc, lr, ro, a_ctorType, a_ctorFirst, a_ctorSecond, a_nodeKind, a_nodeArg, a_nodePos, a_nodeRow, b_nUp, a_rowFirst, b_rowSize, a_guardKind, a_guardA, a_guardB, b_holePos, b_holeType, b_holeUp, b_head, b_headType, b_binds, b_look, b_lookType, b_bound, b_hit, b_part) v1) (nI tt, nI rl, nI rt, ph, nI cc, nI rc, ro, nI nc, nI hlc, nI clc, nI sc, solM, livM, misF, nI qt, lr, a_ctorType, a_ctorFirst, a_ctorSecond, a_typeSize, a_typeCtors, a_rowFirst, a_rowSize, a_guardKind, a_guardA, a_guardB, a_clauseFirst, a_nodeKind, a_nodeArg, a_nodePos, a_nodeRow, a_altOf, a_altSide, a_nodeNew, a_after, a_holePos, a_holeType, a_holeOwner, a_holeSide, a_clauseRow, a_clauseNodes, a_clauseTests, a_testHead, a_clauseBind, a_litCount, a_lits, a_freshInt, a_stateMask, a_stateOpen, a_statePos, a_stateNext, a_child, a_bucketHead, a_pin, a_marked, a_queue, a_val, a_valType, a_bound) v1 := by
  have hA' := hA
  obtain ⟨fr, sz, cf, hT, hN, hO, hV, hB, hG, h0, h1⟩ := hA
  by_cases c0 : ph = 0
  · exact br_t c0 (br_t c0 ⟨rfl, zz_in hA'⟩)
  have R : ∀ LK HT PT BD, i_Rel (k + 4) (nI tt, nI rl, nI rt, ph, nI cc, nI rc, ro, nI nc, nI hlc, nI clc, nI sc, solM, livM, misF, nI qt, lr, a_ctorType, a_ctorFirst, a_ctorSecond, a_typeSize, a_typeCtors, a_rowFirst, a_rowSize, a_guardKind, a_guardA, a_guardB, a_clauseFirst, a_nodeKind, a_nodeArg, a_nodePos, a_nodeRow, a_altOf, a_altSide, a_nodeNew, a_after, a_holePos, a_holeType, a_holeOwner, a_holeSide, a_clauseRow, a_clauseNodes, a_clauseTests, a_testHead, a_clauseBind, a_litCount, a_lits, a_freshInt, a_stateMask, a_stateOpen, a_statePos, a_stateNext, a_child, a_bucketHead, a_pin, a_marked, a_queue, a_val, a_valType, a_bound) (nI tt, nI rl, nI rt, ph, nI cc, nI nc, nI rc, nI hlc, lr, ro, a_ctorType, a_ctorFirst, a_ctorSecond, a_nodeKind, a_nodeArg, a_nodePos, a_nodeRow, b_nUp, a_rowFirst, b_rowSize, a_guardKind, a_guardA, a_guardB, b_holePos, b_holeType, b_holeUp, b_head, b_headType, b_binds, LK, b_lookType, BD, HT, PT) := fun LK HT PT BD => zz_in hA'
  obtain ⟨r1, r2, r3, r4⟩ := rl_rtn hT
  have hclc := rl_clc hN
  have hT1 := hT.1
  have hrl := hN.1
  refine br_f c0 (xw_isRow (fun z => br_t rfl (br_f c0 ?_)) (fun z0 z1 => br_f (by decide) ?_))
  · by_cases y : v1 < 0
    · exact br_t y ⟨rfl, zz_in hA'⟩
    · exact br_f y (br_f (Int32.not_lt.mpr (z.resolve_left y)) ⟨rfl, zz_in hA'⟩)
  · obtain ⟨r, hr, rfl⟩ := rl_ix z0 z1
    have zl : nI r < nI rc := nI_lt hr (by omega)
    obtain ⟨q1, q2, q3, q4, q5, q6, q7, q8, q9, q10, q11, q12, q13⟩ := hN.2.2.2.2.1 r hr
    have hcl := (rl_cfle hN (r + 1) (by omega)).2
    refine xw_isComplete r4 hV.2.1 (lc_br (fun hf => br_f c0 (br_f z0 (br_t zl ?_))) (fun hy => ?_))
    · refine yw_complete r4 r1 ?_
      have : lc_d (xv_full rt cc a_ctorFirst a_ctorSecond b_headType b_head) = false := lc_df.mpr (fun y => lc_df.mp hf ((rl_full hV).mp y))
      rw [this]
      exact br_t rfl ⟨rfl, zz_in hA'⟩
    · have hful := lc_dt.mp hy
      have ytop : ∀ post : Int32 → SY → Prop, wpY_stand post (nI tt, nI rl, nI rt, ph, nI cc, nI nc, nI rc, nI hlc, lr, ro, a_ctorType, a_ctorFirst, a_ctorSecond, a_nodeKind, a_nodeArg, a_nodePos, a_nodeRow, b_nUp, a_rowFirst, b_rowSize, a_guardKind, a_guardA, a_guardB, b_holePos, b_holeType, b_holeUp, b_head, b_headType, b_binds, b_look, b_lookType, b_bound, b_hit, b_part) (nI r) → wpY_rowMatches post (nI tt, nI rl, nI rt, ph, nI cc, nI nc, nI rc, nI hlc, lr, ro, a_ctorType, a_ctorFirst, a_ctorSecond, a_nodeKind, a_nodeArg, a_nodePos, a_nodeRow, b_nUp, a_rowFirst, b_rowSize, a_guardKind, a_guardA, a_guardB, b_holePos, b_holeType, b_holeUp, b_head, b_headType, b_binds, b_look, b_lookType, b_bound, b_hit, b_part) (nI r) := by
        intro post hp
        refine br_f c0 (br_f z0 (br_t zl (yw_complete r4 r1 ?_)))
        rw [lc_dt.mpr ((rl_full hV).mpr hful)]
        exact br_f (by decide) hp
      have inrow : ∀ c, cf r ≤ c → c < clc → (a_clauseRow c = nI r ↔ c < cf (r + 1)) := by
        intro c a b
        constructor
        · intro e
          obtain ⟨r', x1, x2, x3⟩ := rl_rowof hN b
          have e2 := (rl_xr hT hN x1 x2 x3).1
          rw [e] at e2
          have := (nI_eq (by omega) (by omega)).mp e2
          rw [this]; exact x3
        · intro z; exact q12 c a z
      refine xw_firstMatch (by omega) (by omega) q9 (by omega) (fun hno => br_f (by decide) (ytop _ ?_)) (fun c a b e m hfirst => br_t (nI_pos' (by omega)) ?_)
      · refine rl_stand (lr' := lr) (BD0 := b_binds) hT hN hV hful hr (fun _ LK HT PT BD => ⟨rfl, R LK HT PT BD⟩) (fun c hc => ?_) (fun c hc => ?_)
        · exact absurd hc.2.2.1 (hno c hc.1 (by have := hc.2.1; omega) (q12 c hc.1 hc.2.1))
        · exact absurd hc.2.2.1 (hno c hc.1 (by have := hc.2.1; omega) (q12 c hc.1 hc.2.1))
      · have cr := (inrow c a b).mp e
        have uniq : ∀ c', rl_fst a_clauseTests a_testHead cf a_val r c' → c' = c := by
          intro c' hc'
          rcases Nat.lt_trichotomy c' c with z | z | z
          · exact absurd hc'.2.2.1 (hfirst c' hc'.1 z (q12 c' hc'.1 hc'.2.1))
          · exact z
          · exact absurd m (hc'.2.2.2 c a z)
        refine rl_guard hT hN hr a cr (lc_br (fun hf => ytop _ ?_) (fun hy2 => ytop _ ?_))
        · refine rl_stand (lr' := lr) (BD0 := b_binds) hT hN hV hful hr (fun hn => absurd ⟨c, a, cr, m⟩ hn) (fun c' hc' hg LK HT PT BD => ⟨rfl, R LK HT PT BD⟩) (fun c' hc' hg => ?_)
          rw [uniq c' hc'] at hg
          exact absurd hg (lc_df.mp hf)
        · refine rl_stand (lr' := lr) (BD0 := b_binds) hT hN hV hful hr (fun hn => absurd ⟨c, a, cr, m⟩ hn) (fun c' hc' hg => ?_) (fun c' hc' hg LK HT PT BD _ => ⟨rfl, R LK HT PT BD⟩)
          rw [uniq c' hc'] at hg
          exact absurd (lc_dt.mp hy2) hg
end
end
section
section
variable {tt rl rt cc rc nc hlc clc sc qt : Nat} {ph ro misF lr : Int32} {solM livM : Int64} {a_ctorType a_ctorFirst a_ctorSecond a_typeSize a_typeCtors a_rowFirst a_rowSize a_guardKind a_guardA a_guardB a_clauseFirst a_nodeKind a_nodeArg a_nodePos a_nodeRow a_altOf a_altSide a_nodeNew a_after a_holePos a_holeType a_holeOwner a_holeSide a_clauseRow a_clauseTests a_testHead a_clauseBind a_litCount a_lits a_freshInt a_stateOpen a_statePos a_stateNext a_child a_bucketHead a_pin a_marked a_queue a_val a_valType a_bound : Nat → Int32} {a_clauseNodes a_stateMask : Nat → Int64} {b_nUp b_rowSize b_holePos b_holeType b_holeUp b_head b_headType b_binds b_look b_lookType b_bound b_hit b_part : Nat → Int32}
variable {k : Nat} {fr sz cf : Nat → Nat}
/-- a shape as the new value -/
theorem rl_newV {V VT LK LT HD HY : Nat → Int32} (hT : rl_T tt rl rt cc ph a_ctorType a_ctorFirst a_ctorSecond a_typeSize a_typeCtors) (hp : ph = 2) (hS : gh_Sh (nI rt) (xc_f cc a_ctorFirst a_ctorSecond) (xc_n a_litCount a_typeSize) (xc_d a_litCount a_lits a_freshInt a_typeCtors) V) (hVT : ∀ q, 1 ≤ q → q ≤ 7 → VT q = gh_ty (nI rt) (xc_f cc a_ctorFirst a_ctorSecond) V q) (ag : sh_ag 8 LK V) (hLT : ∀ q, 1 ≤ q → q ≤ 7 → LT q = gh_ty (nI rt) (xc_f cc a_ctorFirst a_ctorSecond) LK q) (hHD : ∀ q, 1 ≤ q → q ≤ 7 → HD q = LK q ∧ HY q = LT q) : rl_V rt cc ph a_ctorType a_ctorFirst a_ctorSecond VT V HY HD := by
  obtain ⟨r1, r2, r3, r4⟩ := rl_rtn hT
  have hT1 := hT.1
  have hF : xc_F cc a_ctorFirst a_ctorSecond := cf_F hT1.2.1 hT.2.2.2.1
  have ety : ∀ q, 1 ≤ q → q ≤ 7 → gh_ty (nI rt) (xc_f cc a_ctorFirst a_ctorSecond) LK q = gh_ty (nI rt) (xc_f cc a_ctorFirst a_ctorSecond) V q := fun q q1 q7 => sh_ag_ty ag q1 q7 (by omega)
  have hpl : ∀ p, 1 ≤ p → p ≤ 7 → xv_pl rt cc a_ctorFirst a_ctorSecond VT V p = gh_ty (nI rt) (xc_f cc a_ctorFirst a_ctorSecond) V p := by
    intro p p1 p7
    unfold xv_pl
    by_cases q : p = 1
    · subst q; rw [if_pos rfl, gh_ty1]
    · rw [if_neg q, gh_ty_step (by omega) p7, hVT (p / 2) (by omega) (by omega)]
  refine ⟨fun p p1 p7 => ⟨?_, fun _ => ?_, fun _ => ?_, fun z z0 => ?_⟩, fun p p1 p7 => ?_, fun z => ?_⟩
  · rw [(hHD p p1 p7).2, hLT p p1 p7, ety p p1 p7, hVT p p1 p7]
  · rw [(hHD p p1 p7).1]; exact ag p p1 (by omega)
  · rw [hpl p p1 p7]; exact hVT p p1 p7
  · rw [hVT p p1 p7] at z z0 ⊢
    obtain ⟨i, i1, i2⟩ := (hS p p1 p7).2 z
    rcases ys_tyr (rt := rt) r4 r2 hF V p with y | ⟨kk, k4, ek⟩
    · exact absurd y z
    · rw [ek] at z0 i1 i2 ⊢
      have k1 : 1 ≤ kk := by
        rcases Nat.eq_zero_or_pos kk with y | y
        · subst y; exact absurd rfl z0
        · exact y
      obtain ⟨s, s3, es, q1, q2, q3⟩ := hT.2.2.2.2.2.2.1 kk k1 k4
      rw [xc_nk k1 k4, es, nI_clamp (by omega)] at i1
      obtain ⟨c, c1, c2, c3⟩ := q1 i i1
      refine ⟨c, c1, ?_, c3⟩
      rw [i2, ← c2]
      unfold xc_d
      rw [if_neg (nI_ne0 (by omega) (by omega)), nI_clamp (by omega)]
  · rw [hVT p p1 p7]; exact ys_tyr r4 r2 hF V p
  · rw [hp] at z; exact absurd z (by decide)
theorem rl_same {u v : Nat → Int32} {M M' : (Nat → Int32) → Prop} (hu : gh_Sh (nI rt) (xc_f cc a_ctorFirst a_ctorSecond) (xc_n a_litCount a_typeSize) (xc_d a_litCount a_lits a_freshInt a_typeCtors) u) (hv : gh_Sh (nI rt) (xc_f cc a_ctorFirst a_ctorSecond) (xc_n a_litCount a_typeSize) (xc_d a_litCount a_lits a_freshInt a_typeCtors) v) (e : ∀ w, M w ↔ M' w) (mu : M u) (mv : M' v) (nu : ∀ w, gh_Sh (nI rt) (xc_f cc a_ctorFirst a_ctorSecond) (xc_n a_litCount a_typeSize) (xc_d a_litCount a_lits a_freshInt a_typeCtors) w → M w → ¬ sh_lt (nI rt) (xc_f cc a_ctorFirst a_ctorSecond) (xc_n a_litCount a_typeSize) (xc_d a_litCount a_lits a_freshInt a_typeCtors) w u) (nv : ∀ w, gh_Sh (nI rt) (xc_f cc a_ctorFirst a_ctorSecond) (xc_n a_litCount a_typeSize) (xc_d a_litCount a_lits a_freshInt a_typeCtors) w → M' w → ¬ sh_lt (nI rt) (xc_f cc a_ctorFirst a_ctorSecond) (xc_n a_litCount a_typeSize) (xc_d a_litCount a_lits a_freshInt a_typeCtors) w v) : sh_ag 8 u v := by
  rcases sh_tri hu hv with z | z | z
  · exact z
  · exact absurd z (nv u hu ((e u).mp mu))
  · exact absurd z (nu v hv ((e v).mpr mv))
theorem rl_xM0 (v : Nat → Int32) : xm_M clc (xc_t a_clauseTests) (xc_h a_testHead) (xc_r a_clauseRow) (xc_s a_clauseRow a_guardKind) 0 v ↔ ∀ c, c < clc → xc_s a_clauseRow a_guardKind c = true → ¬ gh_Mt (xc_t a_clauseTests) (xc_h a_testHead) v c := by
  unfold xm_M
  constructor
  · rintro (⟨_, h⟩ | ⟨h, _⟩)
    · intro c hc hs hm
      obtain ⟨c', x1, x2⟩ := (gs_solid (rw := xc_r a_clauseRow) (sol := xc_s a_clauseRow a_guardKind) (N := clc) xc_hsol).mpr ⟨c, hc, hs, hm⟩
      rw [h c' x1] at x2; exact absurd x2 (by decide)
    · exact absurd rfl h
  · intro h
    refine Or.inl ⟨rfl, fun c hc => ?_⟩
    cases hs : xc_s a_clauseRow a_guardKind c with
    | false => rfl
    | true => exact absurd hc.2.1 (h c hc.1 hs)
theorem vc_loadMissing (hA : rl_All tt rl rt cc ph a_ctorType a_ctorFirst a_ctorSecond a_typeSize a_typeCtors rc nc clc a_nodeKind a_nodeArg a_nodePos a_nodeRow b_nUp a_altOf a_altSide a_nodeNew a_rowFirst a_rowSize b_rowSize a_guardKind a_guardA a_guardB a_clauseFirst a_clauseRow a_clauseNodes a_clauseTests a_testHead a_clauseBind hlc ro a_holePos a_holeType a_holeOwner a_holeSide b_holePos b_holeType b_holeUp a_valType a_val b_headType b_head sc misF solM livM a_litCount a_lits a_freshInt a_stateMask a_stateOpen a_statePos a_child a_bound b_binds) : wpX_loadMissing (fun r u' => wpY_loadMissing (fun r' v' => r' = r ∧ i_Rel (k + 4) u' v') (nI tt, nI rl, nI rt, ph, nI cc, nI nc, nI rc, nI hlc, lr, ro, a_ctorType, a_ctorFirst, a_ctorSecond, a_nodeKind, a_nodeArg, a_nodePos, a_nodeRow, b_nUp, a_rowFirst, b_rowSize, a_guardKind, a_guardA, a_guardB, b_holePos, b_holeType, b_holeUp, b_head, b_headType, b_binds, b_look, b_lookType, b_bound, b_hit, b_part)) (nI tt, nI rl, nI rt, ph, nI cc, nI rc, ro, nI nc, nI hlc, nI clc, nI sc, solM, livM, misF, nI qt, lr, a_ctorType, a_ctorFirst, a_ctorSecond, a_typeSize, a_typeCtors, a_rowFirst, a_rowSize, a_guardKind, a_guardA, a_guardB, a_clauseFirst, a_nodeKind, a_nodeArg, a_nodePos, a_nodeRow, a_altOf, a_altSide, a_nodeNew, a_after, a_holePos, a_holeType, a_holeOwner, a_holeSide, a_clauseRow, a_clauseNodes, a_clauseTests, a_testHead, a_clauseBind, a_litCount, a_lits, a_freshInt, a_stateMask, a_stateOpen, a_statePos, a_stateNext, a_child, a_bucketHead, a_pin, a_marked, a_queue, a_val, a_valType, a_bound) := by
  have hA' := hA
  obtain ⟨fr, sz, cf, hT, hN, hO, hV, hB, hG, h0, h1⟩ := hA
  by_cases c0 : ¬ ph = 2
  · exact br_f c0 (br_f c0 ⟨rfl, zz_in hA'⟩)
  have c0 := Classical.not_not.mp c0
  have cz : ph ≠ 0 := by rw [c0]; decide
  obtain ⟨g1, g2, g3, g4, g5⟩ := hG c0
  have R : ∀ LK LT HT PT, i_Rel (k + 4) (nI tt, nI rl, nI rt, ph, nI cc, nI rc, ro, nI nc, nI hlc, nI clc, nI sc, solM, livM, misF, nI qt, lr, a_ctorType, a_ctorFirst, a_ctorSecond, a_typeSize, a_typeCtors, a_rowFirst, a_rowSize, a_guardKind, a_guardA, a_guardB, a_clauseFirst, a_nodeKind, a_nodeArg, a_nodePos, a_nodeRow, a_altOf, a_altSide, a_nodeNew, a_after, a_holePos, a_holeType, a_holeOwner, a_holeSide, a_clauseRow, a_clauseNodes, a_clauseTests, a_testHead, a_clauseBind, a_litCount, a_lits, a_freshInt, a_stateMask, a_stateOpen, a_statePos, a_stateNext, a_child, a_bucketHead, a_pin, a_marked, a_queue, a_val, a_valType, a_bound) (nI tt, nI rl, nI rt, ph, nI cc, nI nc, nI rc, nI hlc, lr, ro, a_ctorType, a_ctorFirst, a_ctorSecond, a_nodeKind, a_nodeArg, a_nodePos, a_nodeRow, b_nUp, a_rowFirst, b_rowSize, a_guardKind, a_guardA, a_guardB, b_holePos, b_holeType, b_holeUp, b_head, b_headType, b_binds, LK, LT, b_bound, HT, PT) := fun LK LT HT PT => zz_in hA'
  have hm : (∃ u, gh_Sh (nI rt) (xc_f cc a_ctorFirst a_ctorSecond) (xc_n a_litCount a_typeSize) (xc_d a_litCount a_lits a_freshInt a_typeCtors) u ∧ ys_M a_guardKind (rl_RM a_clauseTests a_testHead cf) (rl_PP a_clauseTests a_testHead a_clauseNodes cf) (-1) rc u) ↔ misF ≠ 0 := by
    rw [g4]
    exact ⟨fun ⟨u, a, b⟩ => ⟨u, a, (rl_M0 hT hN u).mp b⟩, fun ⟨u, a, b⟩ => ⟨u, a, (rl_M0 hT hN u).mpr b⟩⟩
  obtain ⟨r1, r2, r3, r4⟩ := rl_rtn hT
  obtain ⟨e1, e2, e3, e4⟩ := rl_base (a_litCount := a_litCount) hT cz
  have hlim := hN.2.2.2.2.2.2.2.2.1
  have ht := hT.2.2.2.2.2.2.1
  refine br_t c0 (br_c (fun z => br_t c0 ?_) (fun z => ?_))
  · unfold wpY_load
    dsimp only
    refine rl_search0 (ph := ph) (fr := fr) (sz := sz) (cf := cf) hT cz hN g1 (fun hno LK LT HT PT => br_t rfl ⟨rfl, R LK LT HT PT⟩) (fun LK LT HT PT a b c d => ?_)
    exact absurd z (hm.mp ⟨LK, a, c⟩)
  · obtain ⟨w, w1, w2⟩ := g4.mp z
    refine xw_loadSmallest (okT := (xo_okT cc a_ctorType a_nodeKind a_nodeArg a_nodePos nc)) r4 r2 e1 (rl_C5 hN) rl_hok e3 (cf_L g1 hlim ht) (cf_inj g1 hlim ht) g3 g2 ⟨w, w1, (rl_xM0 w).mpr w2⟩ (fun u v a b => rl_mc a b) (fun qt PN MD QU V VT s1 s2 s3 s4 => xw_forget (fun BD hBD => br_t c0 ?_))
    unfold wpY_load
    dsimp only
    refine rl_search0 (ph := ph) (fr := fr) (sz := sz) (cf := cf) hT cz hN g1 (fun hno LK LT HT PT => ?_) (fun LK LT HT PT a b c d => br_f (by decide) (yw_load13 (fun HD HY BD' hHD hBD' => ⟨rfl, ?_⟩)))
    · obtain ⟨u, u1, u2⟩ := hm.mpr z
      exact absurd u2 (hno u u1)
    · have ag : sh_ag 8 LK V := rl_same (M := ys_M a_guardKind (rl_RM a_clauseTests a_testHead cf) (rl_PP a_clauseTests a_testHead a_clauseNodes cf) (-1) rc) (M' := xm_M clc (xc_t a_clauseTests) (xc_h a_testHead) (xc_r a_clauseRow) (xc_s a_clauseRow a_guardKind) 0) a s1 (fun w => (rl_M0 hT hN w).trans (rl_xM0 w).symm) c s2 d s3
      exact zz_in ⟨fr, sz, cf, hT, hN, hO, rl_newV hT c0 s1 s4 ag b hHD, fun v hv => (hBD v hv).trans (hBD' v hv).symm, fun _ => ⟨g1, g2, g3, g4, g5⟩, h0, h1⟩
theorem vc_loadNode (hA : rl_All tt rl rt cc ph a_ctorType a_ctorFirst a_ctorSecond a_typeSize a_typeCtors rc nc clc a_nodeKind a_nodeArg a_nodePos a_nodeRow b_nUp a_altOf a_altSide a_nodeNew a_rowFirst a_rowSize b_rowSize a_guardKind a_guardA a_guardB a_clauseFirst a_clauseRow a_clauseNodes a_clauseTests a_testHead a_clauseBind hlc ro a_holePos a_holeType a_holeOwner a_holeSide b_holePos b_holeType b_holeUp a_valType a_val b_headType b_head sc misF solM livM a_litCount a_lits a_freshInt a_stateMask a_stateOpen a_statePos a_child a_bound b_binds) (v1 : Int32) : wpX_loadNode (fun r u' => wpY_loadNode (fun r' v' => r' = r ∧ i_Rel (k + 4) u' v') (nI tt, nI rl, nI rt, ph, nI cc, nI nc, nI rc, nI hlc, lr, ro, a_ctorType, a_ctorFirst, a_ctorSecond, a_nodeKind, a_nodeArg, a_nodePos, a_nodeRow, b_nUp, a_rowFirst, b_rowSize, a_guardKind, a_guardA, a_guardB, b_holePos, b_holeType, b_holeUp, b_head, b_headType, b_binds, b_look, b_lookType, b_bound, b_hit, b_part) v1) (nI tt, nI rl, nI rt, ph, nI cc, nI rc, ro, nI nc, nI hlc, nI clc, nI sc, solM, livM, misF, nI qt, lr, a_ctorType, a_ctorFirst, a_ctorSecond, a_typeSize, a_typeCtors, a_rowFirst, a_rowSize, a_guardKind, a_guardA, a_guardB, a_clauseFirst, a_nodeKind, a_nodeArg, a_nodePos, a_nodeRow, a_altOf, a_altSide, a_nodeNew, a_after, a_holePos, a_holeType, a_holeOwner, a_holeSide, a_clauseRow, a_clauseNodes, a_clauseTests, a_testHead, a_clauseBind, a_litCount, a_lits, a_freshInt, a_stateMask, a_stateOpen, a_statePos, a_stateNext, a_child, a_bucketHead, a_pin, a_marked, a_queue, a_val, a_valType, a_bound) v1 := by
  have hA' := hA
  obtain ⟨fr, sz, cf, hT, hN, hO, hV, hB, hG, h0, h1⟩ := hA
  by_cases c0 : ¬ ph = 2
  · exact br_f c0 (br_f c0 ⟨rfl, zz_in hA'⟩)
  have c0 := Classical.not_not.mp c0
  have cz : ph ≠ 0 := by rw [c0]; decide
  obtain ⟨g1, g2, g3, g4, g5⟩ := hG c0
  have R : ∀ LK LT HT PT, i_Rel (k + 4) (nI tt, nI rl, nI rt, ph, nI cc, nI rc, ro, nI nc, nI hlc, nI clc, nI sc, solM, livM, misF, nI qt, lr, a_ctorType, a_ctorFirst, a_ctorSecond, a_typeSize, a_typeCtors, a_rowFirst, a_rowSize, a_guardKind, a_guardA, a_guardB, a_clauseFirst, a_nodeKind, a_nodeArg, a_nodePos, a_nodeRow, a_altOf, a_altSide, a_nodeNew, a_after, a_holePos, a_holeType, a_holeOwner, a_holeSide, a_clauseRow, a_clauseNodes, a_clauseTests, a_testHead, a_clauseBind, a_litCount, a_lits, a_freshInt, a_stateMask, a_stateOpen, a_statePos, a_stateNext, a_child, a_bucketHead, a_pin, a_marked, a_queue, a_val, a_valType, a_bound) (nI tt, nI rl, nI rt, ph, nI cc, nI nc, nI rc, nI hlc, lr, ro, a_ctorType, a_ctorFirst, a_ctorSecond, a_nodeKind, a_nodeArg, a_nodePos, a_nodeRow, b_nUp, a_rowFirst, b_rowSize, a_guardKind, a_guardA, a_guardB, b_holePos, b_holeType, b_holeUp, b_head, b_headType, b_binds, LK, LT, b_bound, HT, PT) := fun LK LT HT PT => zz_in hA'
  obtain ⟨r1, r2, r3, r4⟩ := rl_rtn hT
  obtain ⟨e1, e2, e3, e4⟩ := rl_base (a_litCount := a_litCount) hT cz
  have hlim := hN.2.2.2.2.2.2.2.2.1
  have ht := hT.2.2.2.2.2.2.1
  have hclc := rl_clc hN
  refine br_t c0 (xw_isNode (fun z => br_t rfl (br_t c0 ?_)) (fun z0 z1 => br_f (by decide) ?_))
  · by_cases y : v1 < 0
    · exact br_t y ⟨rfl, zz_in hA'⟩
    · exact br_f y (br_f (Int32.not_lt.mpr (z.resolve_left y)) ⟨rfl, zz_in hA'⟩)
  · obtain ⟨n, hn, rfl⟩ := rl_ix z0 z1
    have hnc := hN.2.1
    obtain ⟨r, q1, q2, q3, q4⟩ := rl_noderow hN (rl_closed hO h1 c0).1 hn
    have zl : nI n < nI nc := nI_lt hn (by omega)
    refine xw_hasBit (by omega) (lc_br (fun hf => br_t c0 (br_f z0 (br_t zl ?_))) (fun hy => ?_))
    · unfold wpY_load
      dsimp only
      refine rl_searchn (ph := ph) (fr := fr) (sz := sz) (cf := cf) hT cz hN g1 q1 q2 q3 (fun hno LK LT HT PT => br_t rfl ⟨rfl, R LK LT HT PT⟩) (fun LK LT HT PT a b c d => ?_)
      obtain ⟨c', x1, x2⟩ := c
      rw [(g5 n).mpr ⟨LK, c', a, x1, x2⟩] at hf
      exact absurd hf (by decide)
    · obtain ⟨w, cw, w1, w2, w3⟩ := (g5 n).mp hy
      have loop : ∀ d i g, i + d = clc → (∀ c, bi_L g c = true ↔ c < i ∧ bi_L (a_clauseNodes c) n = true) → wX_loadNode_42 (fun r u' => wpY_loadNode (fun r' v' => r' = r ∧ i_Rel (k + 4) u' v') (nI tt, nI rl, nI rt, ph, nI cc, nI nc, nI rc, nI hlc, lr, ro, a_ctorType, a_ctorFirst, a_ctorSecond, a_nodeKind, a_nodeArg, a_nodePos, a_nodeRow, b_nUp, a_rowFirst, b_rowSize, a_guardKind, a_guardA, a_guardB, b_holePos, b_holeType, b_holeUp, b_head, b_headType, b_binds, b_look, b_lookType, b_bound, b_hit, b_part) (nI n)) (nI n) (nI tt) (nI rl) (nI rt) ph (nI cc) (nI rc) ro (nI nc) (nI hlc) (nI clc) (nI sc) solM livM misF (nI qt) lr a_ctorType a_ctorFirst a_ctorSecond a_typeSize a_typeCtors a_rowFirst a_rowSize a_guardKind a_guardA a_guardB a_clauseFirst a_nodeKind a_nodeArg a_nodePos a_nodeRow a_altOf a_altSide a_nodeNew a_after a_holePos a_holeType a_holeOwner a_holeSide a_clauseRow a_clauseNodes a_clauseTests a_testHead a_clauseBind a_litCount a_lits a_freshInt a_stateMask a_stateOpen a_statePos a_stateNext a_child a_bucketHead a_pin a_marked a_queue a_val a_valType a_bound (d + 1) g (nI i) := by
        intro d
        induction d with
        | zero =>
          intro i g hi hg
          have : i = clc := by omega
          subst this
          have gne : g ≠ 0 := by
            intro z
            have := (hg cw).mpr ⟨w2.1, w3⟩
            rw [z, bi_0] at this; exact absurd this (by decide)
          have eM : ∀ v, (∃ c, gh_Sel i (xc_t a_clauseTests) (xc_h a_testHead) (xc_r a_clauseRow) (xc_s a_clauseRow a_guardKind) v c ∧ bi_L (a_clauseNodes c) n = true) ↔ xm_M i (xc_t a_clauseTests) (xc_h a_testHead) (xc_r a_clauseRow) (xc_s a_clauseRow a_guardKind) g v := by
            intro v
            unfold xm_M
            constructor
            · rintro ⟨c, x1, x2⟩; exact Or.inr ⟨gne, c, x1, (hg c).mpr ⟨x1.1, x2⟩⟩
            · rintro (⟨z, _⟩ | ⟨_, c, x1, x2⟩)
              · exact absurd z gne
              · exact ⟨c, x1, ((hg c).mp x2).2⟩
          refine br_t (nI_le (by omega) (by omega)) (xw_loadSmallest (okT := (xo_okT cc a_ctorType a_nodeKind a_nodeArg a_nodePos nc)) r4 r2 e1 (rl_C5 hN) rl_hok e3 (cf_L g1 hlim ht) (cf_inj g1 hlim ht) g3 g2 ⟨w, w1, (eM w).mp ⟨cw, w2, w3⟩⟩ (fun u v a b => rl_mc a b) (fun qt PN MD QU V VT s1 s2 s3 s4 => xw_forget (fun BD hBD => br_t c0 (br_f z0 (br_t zl ?_)))))
          unfold wpY_load
          dsimp only
          refine rl_searchn (ph := ph) (fr := fr) (sz := sz) (cf := cf) hT cz hN g1 q1 q2 q3 (fun hno LK LT HT PT => ?_) (fun LK LT HT PT a b c d => br_f (by decide) (yw_load13 (fun HD HY BD' hHD hBD' => ⟨rfl, ?_⟩)))
          · exact absurd ⟨w, cw, w1, w2, w3⟩ hno
          · have ag : sh_ag 8 LK V := rl_same (M := fun v => ∃ c, gh_Sel i (xc_t a_clauseTests) (xc_h a_testHead) (xc_r a_clauseRow) (xc_s a_clauseRow a_guardKind) v c ∧ bi_L (a_clauseNodes c) n = true) (M' := xm_M i (xc_t a_clauseTests) (xc_h a_testHead) (xc_r a_clauseRow) (xc_s a_clauseRow a_guardKind) g) a s1 eM c s2 d s3
            exact zz_in ⟨fr, sz, cf, hT, hN, hO, rl_newV hT c0 s1 s4 ag b hHD, fun v hv => (hBD v hv).trans (hBD' v hv).symm, fun _ => ⟨g1, g2, g3, g4, g5⟩, h0, h1⟩
        | succ d ih =>
          intro i g hi hg
          refine br_f (nI_ge (by omega) (by omega)) ⟨vp_in_nI (by omega) (by omega), ?_⟩
          rw [nI_clamp (by omega : i < 2 ^ 31)]
          refine xw_hasBit (by omega) (lc_br (fun hf => nm_r (nI_1 i) (ih (i + 1) g (by omega) (fun c => ?_))) (fun hb => nm_e (nm_r (nI_1 i) (ih (i + 1) _ (by omega) (fun c => ?_)))))
          · rw [hg c]
            constructor
            · rintro ⟨a, b⟩; exact ⟨by omega, b⟩
            · rintro ⟨a, b⟩
              by_cases q : c = i
              · subst q; rw [hf] at b; exact absurd b (by decide)
              · exact ⟨by omega, b⟩
          · rw [bi_set (by omega), Bool.or_eq_true, hg c, decide_eq_true_iff]
            constructor
            · rintro (⟨a, b⟩ | a)
              · exact ⟨by omega, b⟩
              · subst a; exact ⟨by omega, hb⟩
            · rintro ⟨a, b⟩
              by_cases q : c = i
              · exact Or.inr q
              · exact Or.inl ⟨by omega, b⟩
      exact ⟨clc + 1, loop clc 0 0 (by omega) (fun c => by rw [bi_0]; exact ⟨fun z => absurd z (by decide), fun ⟨a, _⟩ => by omega⟩)⟩
end
end
section
section
variable {tt rl rt cc rc nc hlc clc sc qt : Nat} {ph ro misF lr : Int32} {solM livM : Int64} {a_ctorType a_ctorFirst a_ctorSecond a_typeSize a_typeCtors a_rowFirst a_rowSize a_guardKind a_guardA a_guardB a_clauseFirst a_nodeKind a_nodeArg a_nodePos a_nodeRow a_altOf a_altSide a_nodeNew a_after a_holePos a_holeType a_holeOwner a_holeSide a_clauseRow a_clauseTests a_testHead a_clauseBind a_litCount a_lits a_freshInt a_stateOpen a_statePos a_stateNext a_child a_bucketHead a_pin a_marked a_queue a_val a_valType a_bound : Nat → Int32} {a_clauseNodes a_stateMask : Nat → Int64} {b_nUp b_rowSize b_holePos b_holeType b_holeUp b_head b_headType b_binds b_look b_lookType b_bound b_hit b_part : Nat → Int32}
variable {k : Nat} {fr sz cf : Nat → Nat}
theorem rl_yrun {post : Int32 → SY → Prop} (hT : rl_T tt rl rt cc ph a_ctorType a_ctorFirst a_ctorSecond a_typeSize a_typeCtors) (hN : rl_N rt cc rl rc nc clc a_ctorType a_ctorFirst a_ctorSecond a_nodeKind a_nodeArg a_nodePos a_nodeRow b_nUp a_altOf a_altSide a_nodeNew a_rowFirst a_rowSize b_rowSize a_guardKind a_guardA a_guardB a_clauseFirst a_clauseRow a_clauseNodes a_clauseTests a_testHead a_clauseBind fr sz cf) (hV : rl_V rt cc ph a_ctorType a_ctorFirst a_ctorSecond a_valType a_val b_headType b_head) (hf : xv_full rt cc a_ctorFirst a_ctorSecond a_valType a_val) (c0 : ph = 2)
    (h : (∃ r c, r < rc ∧ rl_fst a_clauseTests a_testHead cf a_val r c ∧ gd_h a_guardKind a_guardA a_guardB (fun x => a_clauseBind (c * 4 + x)) a_val r ∧ (∀ q c', q < r → rl_fst a_clauseTests a_testHead cf a_val q c' → ¬ gd_h a_guardKind a_guardA a_guardB (fun x => a_clauseBind (c' * 4 + x)) a_val q) ∧ ∀ BD LK HT PT BN, (∀ x, x < 4 → BD x = a_clauseBind (c * 4 + x)) → post (nI r) (nI tt, nI rl, nI rt, ph, nI cc, nI nc, nI rc, nI hlc, nI r, ro, a_ctorType, a_ctorFirst, a_ctorSecond, a_nodeKind, a_nodeArg, a_nodePos, a_nodeRow, b_nUp, a_rowFirst, b_rowSize, a_guardKind, a_guardA, a_guardB, b_holePos, b_holeType, b_holeUp, b_head, b_headType, BD, LK, b_lookType, BN, HT, PT)) ∨
      ((∀ q c', q < rc → rl_fst a_clauseTests a_testHead cf a_val q c' → ¬ gd_h a_guardKind a_guardA a_guardB (fun x => a_clauseBind (c' * 4 + x)) a_val q) ∧ ∀ BD LK HT PT BN, (∀ x, x < 4 → BD x = 0) → post (-10) (nI tt, nI rl, nI rt, ph, nI cc, nI nc, nI rc, nI hlc, -10, ro, a_ctorType, a_ctorFirst, a_ctorSecond, a_nodeKind, a_nodeArg, a_nodePos, a_nodeRow, b_nUp, a_rowFirst, b_rowSize, a_guardKind, a_guardA, a_guardB, b_holePos, b_holeType, b_holeUp, b_head, b_headType, BD, LK, b_lookType, BN, HT, PT))) : wpY_run post (nI tt, nI rl, nI rt, ph, nI cc, nI nc, nI rc, nI hlc, lr, ro, a_ctorType, a_ctorFirst, a_ctorSecond, a_nodeKind, a_nodeArg, a_nodePos, a_nodeRow, b_nUp, a_rowFirst, b_rowSize, a_guardKind, a_guardA, a_guardB, b_holePos, b_holeType, b_holeUp, b_head, b_headType, b_binds, b_look, b_lookType, b_bound, b_hit, b_part) := by
  obtain ⟨r1, r2, r3, r4⟩ := rl_rtn hT
  have hT1 := hT.1
  have hrl := hN.1
  refine br_t c0 (yw_complete r4 r1 ?_)
  rw [lc_dt.mpr ((rl_full hV).mpr hf)]
  refine br_f (by decide) (yw_forget (fun BZ hBZ => ?_))
  rcases h with ⟨r, c, hr, hfc, hgc, hbef, hp⟩ | ⟨hno, hp⟩
  · have m10 : ¬ nI r = -10 := by
      intro z
      have := congrArg Int32.toInt z
      rw [nI_toInt (by omega), show (-10 : Int32).toInt = -10 from by decide] at this
      omega
    have r72 : ∀ LK HT PT BN, (∀ x, x < 4 → BN x = a_clauseBind (c * 4 + x)) → ∀ d i BD, i + d = 4 → (∀ x, x < i → BD x = a_clauseBind (c * 4 + x)) → wY_run_72 post (nI tt) (nI rl) (nI rt) ph (nI cc) (nI nc) (nI rc) (nI hlc) (nI r) ro (d + 1) (nI i) a_ctorType a_ctorFirst a_ctorSecond a_nodeKind a_nodeArg a_nodePos a_nodeRow b_nUp a_rowFirst b_rowSize a_guardKind a_guardA a_guardB b_holePos b_holeType b_holeUp b_head b_headType BD LK b_lookType BN HT PT := by
      intro LK HT PT BN hBN d
      induction d with
      | zero =>
        intro i BD hi hB
        have : i = 4 := by omega
        subst this
        exact br_t (nI_le (a := 4) (b := 4) (by omega) (by omega)) (hp BD LK HT PT BN hB)
      | succ d ih =>
        intro i BD hi hB
        have e : (nI i).toNatClampNeg = i := nI_clamp (by omega)
        have w : vp_in (nI i) 4 := vp_in_nI (by omega) (by omega)
        refine br_f (nI_ge (a := i) (b := 4) (by omega) (by omega)) (br_f m10 ⟨w, w, nm_r (e' := upd BD i (BN i)) (by rw [e]) (nm_r (nI_1 i) (ih (i + 1) _ (by omega) (fun x hx => ?_)))⟩)
        by_cases q : x = i
        · subst q; rw [pk_us]; exact hBN x (by omega)
        · rw [pk_un q]; exact hB x (by omega)
    have loop : ∀ d q LK HT PT BN, q + d = r → wY_run_33 post (d + 2) (nI q) (nI tt) (nI rl) (nI rt) ph (nI cc) (nI nc) (nI rc) (nI hlc) (-10) ro a_ctorType a_ctorFirst a_ctorSecond a_nodeKind a_nodeArg a_nodePos a_nodeRow b_nUp a_rowFirst b_rowSize a_guardKind a_guardA a_guardB b_holePos b_holeType b_holeUp b_head b_headType BZ LK b_lookType BN HT PT := by
      intro d
      induction d with
      | zero =>
        intro q LK HT PT BN hq
        have : q = r := by omega
        subst this
        refine br_f (nI_ge hr (by omega)) (br_t rfl ?_)
        refine rl_stand (lr' := -10) (BD0 := BZ) hT hN hV hf hr (fun hn => absurd ⟨c, hfc.1, hfc.2.1, hfc.2.2.1⟩ hn) (fun c' hc' hg => ?_) (fun c' hc' hg LK' HT' PT' BD' hBD' => br_t rfl (nm_r (nI_1 q) ?_))
        · have : c' = c := by
            rcases Nat.lt_trichotomy c' c with z | z | z
            · exact absurd hc'.2.2.1 (hfc.2.2.2 c' hc'.1 z)
            · exact z
            · exact absurd hfc.2.2.1 (hc'.2.2.2 c hfc.1 z)
          rw [this] at hg; exact absurd hgc hg
        · have e' : c' = c := by
            rcases Nat.lt_trichotomy c' c with z | z | z
            · exact absurd hc'.2.2.1 (hfc.2.2.2 c' hc'.1 z)
            · exact z
            · exact absurd hfc.2.2.1 (hc'.2.2.2 c hfc.1 z)
          rw [e'] at hBD'
          have fin := r72 LK' HT' PT' BD' hBD' 4 0 BZ (by omega) (fun x hx => by omega)
          exact br_c (fun _ => ⟨5, fin⟩) (fun _ => br_f m10 ⟨5, fin⟩)
      | succ d ih =>
        intro q LK HT PT BN hq
        refine br_f (nI_ge (by omega) (by omega)) (br_t rfl ?_)
        refine rl_stand (lr' := -10) (BD0 := BZ) hT hN hV hf (by omega) (fun hn LK' HT' PT' BD' => br_f (by decide) (nm_r (nI_1 q) (ih (q + 1) LK' HT' PT' BD' (by omega)))) (fun c' hc' hg LK' HT' PT' BD' => br_f (by decide) (nm_r (nI_1 q) (ih (q + 1) LK' HT' PT' BD' (by omega)))) (fun c' hc' hg => absurd hg (hbef q c' (by omega) hc'))
    exact ⟨r + 2, loop r 0 b_look b_hit b_part b_bound (by omega)⟩
  · have r72 : ∀ LK HT PT BN, ∃ n, wY_run_72 post (nI tt) (nI rl) (nI rt) ph (nI cc) (nI nc) (nI rc) (nI hlc) (-10) ro n 0 a_ctorType a_ctorFirst a_ctorSecond a_nodeKind a_nodeArg a_nodePos a_nodeRow b_nUp a_rowFirst b_rowSize a_guardKind a_guardA a_guardB b_holePos b_holeType b_holeUp b_head b_headType BZ LK b_lookType BN HT PT :=
      fun LK HT PT BN => ⟨1, br_f (nI_ge (a := 0) (b := 4) (by omega) (by omega)) (br_t rfl (hp BZ LK HT PT BN hBZ))⟩
    have loop : ∀ d q LK HT PT BN, q + d = rc → wY_run_33 post (d + 1) (nI q) (nI tt) (nI rl) (nI rt) ph (nI cc) (nI nc) (nI rc) (nI hlc) (-10) ro a_ctorType a_ctorFirst a_ctorSecond a_nodeKind a_nodeArg a_nodePos a_nodeRow b_nUp a_rowFirst b_rowSize a_guardKind a_guardA a_guardB b_holePos b_holeType b_holeUp b_head b_headType BZ LK b_lookType BN HT PT := by
      intro d
      induction d with
      | zero =>
        intro q LK HT PT BN hq
        exact br_t (nI_le (by omega) (by omega)) (r72 LK HT PT BN)
      | succ d ih =>
        intro q LK HT PT BN hq
        refine br_f (nI_ge (by omega) (by omega)) (br_t rfl ?_)
        refine rl_stand (lr' := -10) (BD0 := BZ) hT hN hV hf (by omega) (fun hn LK' HT' PT' BD' => br_f (by decide) (nm_r (nI_1 q) (ih (q + 1) LK' HT' PT' BD' (by omega)))) (fun c' hc' hg LK' HT' PT' BD' => br_f (by decide) (nm_r (nI_1 q) (ih (q + 1) LK' HT' PT' BD' (by omega)))) (fun c' hc' hg => absurd hg (hno q c' (by omega) hc'))
    exact ⟨rc + 1, loop rc 0 b_look b_hit b_part b_bound (by omega)⟩
theorem rl_hci (hT : rl_T tt rl rt cc ph a_ctorType a_ctorFirst a_ctorSecond a_typeSize a_typeCtors) (hN : rl_N rt cc rl rc nc clc a_ctorType a_ctorFirst a_ctorSecond a_nodeKind a_nodeArg a_nodePos a_nodeRow b_nUp a_altOf a_altSide a_nodeNew a_rowFirst a_rowSize b_rowSize a_guardKind a_guardA a_guardB a_clauseFirst a_clauseRow a_clauseNodes a_clauseTests a_testHead a_clauseBind fr sz cf) (hV : rl_V rt cc ph a_ctorType a_ctorFirst a_ctorSecond a_valType a_val b_headType b_head) (hf : xv_full rt cc a_ctorFirst a_ctorSecond a_valType a_val) (hl : xl_OK a_nodeKind a_nodeArg a_nodePos a_nodeNew nc a_litCount a_lits a_freshInt) (p kk : Nat) (p1 : 1 ≤ p) (p7 : p ≤ 7) (ety : gh_ty (nI rt) (xc_f cc a_ctorFirst a_ctorSecond) a_val p = nI kk) (k4 : kk ≤ 4) (post : Int32 → Prop) (h : ∀ i, gw_at (xc_f cc a_ctorFirst a_ctorSecond) (xc_n a_litCount a_typeSize) (xc_d a_litCount a_lits a_freshInt a_typeCtors) (xo_okT cc a_ctorType a_nodeKind a_nodeArg a_nodePos nc) p (nI kk) (a_val p) i → post (nI i)) : wpX_candIndex post (nI tt, nI rl, nI rt, ph, nI cc, nI rc, ro, nI nc, nI hlc, nI clc, nI sc, solM, livM, misF, nI qt, lr, a_ctorType, a_ctorFirst, a_ctorSecond, a_typeSize, a_typeCtors, a_rowFirst, a_rowSize, a_guardKind, a_guardA, a_guardB, a_clauseFirst, a_nodeKind, a_nodeArg, a_nodePos, a_nodeRow, a_altOf, a_altSide, a_nodeNew, a_after, a_holePos, a_holeType, a_holeOwner, a_holeSide, a_clauseRow, a_clauseNodes, a_clauseTests, a_testHead, a_clauseBind, a_litCount, a_lits, a_freshInt, a_stateMask, a_stateOpen, a_statePos, a_stateNext, a_child, a_bucketHead, a_pin, a_marked, a_queue, a_val, a_valType, a_bound) (nI p) (nI kk) (a_val p) := by
  have hlim := hN.2.2.2.2.2.2.2.2.1
  have ht := hT.2.2.2.2.2.2.1
  have hL := cf_L hl hlim ht
  have hvt := rl_compl hT hV hf p p1 p7
  by_cases k0 : kk = 0
  · subst k0
    obtain ⟨e0, e4⟩ := cf_n0 hl hlim p1 p7
    obtain ⟨hI1, hI2, hI3⟩ := hl.1 p p1 p7
    obtain ⟨j0, j04, ej0, nj0, lj0⟩ := hl.2 p p1 p7
    have cdl : ∀ i, i < xl_cnt a_nodeNew a_nodePos p nc → (xc_d a_litCount a_lits a_freshInt a_typeCtors) p 0 i = a_lits (p * 4 + i) := fun i hi => by unfold xc_d; rw [if_pos rfl, e0, if_pos hi]
    have cdf : (xc_d a_litCount a_lits a_freshInt a_typeCtors) p 0 (xl_cnt a_nodeNew a_nodePos p nc) = a_freshInt p := by unfold xc_d; rw [if_pos rfl, e0, if_neg (by omega)]
    refine xw_candIndex (m := xl_cnt a_nodeNew a_nodePos p nc) hL p1 p7 k4 ?_ (fun z => absurd rfl z) (fun i hi hx => h i ⟨hi, fun y hy => ?_, fun q _ _ => ?_⟩)
    · rw [if_pos rfl, show nI 0 = (0 : Int32) from rfl, xc_n0, e0]
    · rcases hx with hx | ⟨_, hx, hno⟩
      · rw [hx]
      · have hlit : xl_lit a_nodeKind a_nodeArg a_nodePos nc p y := by
          rcases hy with ⟨_, hy⟩ | ⟨j, c, j1, _, z, _⟩
          · exact hy
          · exact absurd z.symm (nI_ne0 (by omega) (by omega))
        subst hx
        constructor
        · intro z
          have z' : y = a_freshInt p := z.trans cdf
          rw [z', ej0] at hlit
          exact absurd hlit nj0
        · intro z
          obtain ⟨i, i1, i2⟩ := (hI3 y).mpr hlit
          exact absurd ((cdl i i1).trans (i2.trans z)) (hno i i1)
    · unfold xc_f
      rw [if_pos (Or.inl (by decide)), if_pos (Or.inl (by decide))]
  · have hk1 : 1 ≤ kk := by omega
    obtain ⟨s, s3, es, q1, q2, q3⟩ := ht kk hk1 k4
    have kn : nI kk ≠ -1 := by
      intro z
      have := congrArg Int32.toInt z
      rw [nI_toInt (by omega), show (-1 : Int32).toInt = -1 from by decide] at this
      omega
    obtain ⟨c, c1, c2, c3⟩ := (hV.1 p p1 p7).2.2.2 (by rw [hvt, ety]; exact kn) (by rw [hvt, ety]; exact nI_ne0 (by omega) (by omega))
    rw [hvt, ety] at c3
    obtain ⟨i0, i1, i2⟩ := q3 c c1 c3
    have cdk : ∀ i, (xc_d a_litCount a_lits a_freshInt a_typeCtors) p (nI kk) i = a_typeCtors (kk * 3 + i) := fun i => by unfold xc_d; rw [if_neg (nI_ne0 (by omega) (by omega)), nI_clamp (by omega)]
    refine xw_candIndex (m := s) hL p1 p7 k4 ?_ (fun _ => ⟨i0, i1, by rw [cdk, i2, c2]⟩) (fun i hi hx => h i ?_)
    · rw [if_neg k0, xc_nk hk1 k4, es, nI_clamp (by omega)]
    · have hx' := hx.resolve_right (fun z => k0 z.1)
      exact ⟨hi, fun y _ => by rw [hx'], fun q _ _ => by rw [hx']⟩
theorem vc_run (hA : rl_All tt rl rt cc ph a_ctorType a_ctorFirst a_ctorSecond a_typeSize a_typeCtors rc nc clc a_nodeKind a_nodeArg a_nodePos a_nodeRow b_nUp a_altOf a_altSide a_nodeNew a_rowFirst a_rowSize b_rowSize a_guardKind a_guardA a_guardB a_clauseFirst a_clauseRow a_clauseNodes a_clauseTests a_testHead a_clauseBind hlc ro a_holePos a_holeType a_holeOwner a_holeSide b_holePos b_holeType b_holeUp a_valType a_val b_headType b_head sc misF solM livM a_litCount a_lits a_freshInt a_stateMask a_stateOpen a_statePos a_child a_bound b_binds) : wpX_run (fun r u' => wpY_run (fun r' v' => r' = r ∧ i_Rel (k + 4) u' v') (nI tt, nI rl, nI rt, ph, nI cc, nI nc, nI rc, nI hlc, lr, ro, a_ctorType, a_ctorFirst, a_ctorSecond, a_nodeKind, a_nodeArg, a_nodePos, a_nodeRow, b_nUp, a_rowFirst, b_rowSize, a_guardKind, a_guardA, a_guardB, b_holePos, b_holeType, b_holeUp, b_head, b_headType, b_binds, b_look, b_lookType, b_bound, b_hit, b_part)) (nI tt, nI rl, nI rt, ph, nI cc, nI rc, ro, nI nc, nI hlc, nI clc, nI sc, solM, livM, misF, nI qt, lr, a_ctorType, a_ctorFirst, a_ctorSecond, a_typeSize, a_typeCtors, a_rowFirst, a_rowSize, a_guardKind, a_guardA, a_guardB, a_clauseFirst, a_nodeKind, a_nodeArg, a_nodePos, a_nodeRow, a_altOf, a_altSide, a_nodeNew, a_after, a_holePos, a_holeType, a_holeOwner, a_holeSide, a_clauseRow, a_clauseNodes, a_clauseTests, a_testHead, a_clauseBind, a_litCount, a_lits, a_freshInt, a_stateMask, a_stateOpen, a_statePos, a_stateNext, a_child, a_bucketHead, a_pin, a_marked, a_queue, a_val, a_valType, a_bound) := by
  have hA' := hA
  obtain ⟨fr, sz, cf, hT, hN, hO, hV, hB, hG, h0, h1⟩ := hA
  by_cases c0 : ¬ ph = 2
  · exact br_f c0 (br_f c0 ⟨rfl, zz_in hA'⟩)
  have c0 := Classical.not_not.mp c0
  have cz : ph ≠ 0 := by rw [c0]; decide
  obtain ⟨g1, g2, g3, g4, g5⟩ := hG c0
  obtain ⟨r1, r2, r3, r4⟩ := rl_rtn hT
  have hlim := hN.2.2.2.2.2.2.2.2.1
  have ht := hT.2.2.2.2.2.2.1
  have hclc := rl_clc hN
  have hT1 := hT.1
  have hrl := hN.1
  have h5 := rl_C5 hN
  refine br_t c0 (xw_isComplete r4 hV.2.1 (lc_br (fun hf => br_t c0 ?_) (fun hy => ?_)))
  · refine yw_complete r4 r1 ?_
    have : lc_d (xv_full rt cc a_ctorFirst a_ctorSecond b_headType b_head) = false := lc_df.mpr (fun y => lc_df.mp hf ((rl_full hV).mp y))
    rw [this]
    exact br_t rfl ⟨rfl, zz_in hA'⟩
  · have hful := lc_dt.mp hy
    refine xw_findLeaf (okT := (xo_okT cc a_ctorType a_nodeKind a_nodeArg a_nodePos nc)) h5 rl_hok (cf_L g1 hlim ht) r1 g2 (rl_hci hT hN hV hful g1) (fun l l1 l2 G => ?_)
    have hsc := g2.2.1
    have sel := gw_leaf h5 xc_hsol g2 l1 l2 G
    refine ⟨vp_in_nI (by omega) (by omega), ?_⟩
    rw [nI_clamp (by omega : l < 2 ^ 31)]
    -- selected clauses are first in their rows
    have selrow : ∀ c, gh_Sel clc (xc_t a_clauseTests) (xc_h a_testHead) (xc_r a_clauseRow) (xc_s a_clauseRow a_guardKind) a_val c → ∃ r, r < rc ∧ rl_fst a_clauseTests a_testHead cf a_val r c := by
      intro c hs
      obtain ⟨r, x1, x2, x3⟩ := rl_rowof hN hs.1
      refine ⟨r, x1, x2, x3, hs.2.1, fun c' a b m => ?_⟩
      have := (hs.2.2 c' b m).2
      rw [(rl_xr hT hN x1 a (by omega)).2.1, (rl_xr hT hN x1 x2 x3).2.1] at this
      exact this rfl
    refine xw_pick (GH := fun c => gd_h a_guardKind a_guardA a_guardB (fun x => a_clauseBind (c * 4 + x)) a_val (xc_r a_clauseRow c)) (by omega) (fun c hc post' hp => ?_) (fun hno => ?_) (fun c hc hm hg hbef => ?_)
    · obtain ⟨r, x1, x2, x3⟩ := rl_rowof hN hc
      refine rl_guard hT hN x1 x2 x3 ?_
      rw [(rl_xr hT hN x1 x2 x3).2.1] at hp
      exact hp
    · -- nothing
      refine br_f (by decide) ?_
      have hno' : ∀ q c', q < rc → rl_fst a_clauseTests a_testHead cf a_val q c' → ¬ gd_h a_guardKind a_guardA a_guardB (fun x => a_clauseBind (c' * 4 + x)) a_val q := by
        intro q c' hq hc' hg
        obtain ⟨q0, ⟨d0, hq0, hd0, hg0⟩, hmin⟩ := pk_least (fun q => ∃ c', q < rc ∧ rl_fst a_clauseTests a_testHead cf a_val q c' ∧ gd_h a_guardKind a_guardA a_guardB (fun x => a_clauseBind (c' * 4 + x)) a_val q) ⟨q, c', hq, hc', hg⟩
        obtain ⟨x1, x2, x3, x4⟩ := rl_xr hT hN hq0 hd0.1 hd0.2.1
        refine hno d0 x4 ((sel d0).mpr ⟨x4, hd0.2.2.1, fun c2 hc2 hm2 => ?_⟩) (by rw [x2]; exact hg0)
        obtain ⟨q2, y1, y2, y3⟩ := rl_rowof hN (c := c2) (by omega)
        obtain ⟨z1, z2, z3, z4⟩ := rl_xr hT hN y1 y2 y3
        have hne : q2 ≠ q0 := by intro e; subst e; exact hd0.2.2.2 c2 y2 hc2 hm2
        have hlt : q2 < q0 := by
          rcases Nat.lt_or_ge q2 q0 with w | w
          · exact w
          · have := rl_cfm hN (q2 - (q0 + 1)) (q0 + 1) (by omega)
            rw [show q0 + 1 + (q2 - (q0 + 1)) = q2 by omega] at this
            have := hd0.2.1; omega
        refine ⟨?_, by rw [z2, x2]; exact hne⟩
        rw [z3]
        refine decide_eq_false (fun g0 => ?_)
        obtain ⟨c3, ⟨a1, a2, a3⟩, a4⟩ := pk_least (fun c => cf q2 ≤ c ∧ c < cf (q2 + 1) ∧ gh_Mt (xc_t a_clauseTests) (xc_h a_testHead) a_val c) ⟨c2, y2, y3, hm2⟩
        exact hmin q2 hlt ⟨c3, y1, ⟨a1, a2, a3, fun c' a b m => a4 c' b ⟨a, by omega, m⟩⟩, Or.inl g0⟩
      have loop : ∀ d i BD, i + d = 4 → (∀ x, x < i → BD x = 0) → wX_run_58 (fun r u' => wpY_run (fun r' v' => r' = r ∧ i_Rel (k + 4) u' v') (nI tt, nI rl, nI rt, ph, nI cc, nI nc, nI rc, nI hlc, lr, ro, a_ctorType, a_ctorFirst, a_ctorSecond, a_nodeKind, a_nodeArg, a_nodePos, a_nodeRow, b_nUp, a_rowFirst, b_rowSize, a_guardKind, a_guardA, a_guardB, b_holePos, b_holeType, b_holeUp, b_head, b_headType, b_binds, b_look, b_lookType, b_bound, b_hit, b_part)) (-1) (nI tt) (nI rl) (nI rt) ph (nI cc) (nI rc) ro (nI nc) (nI hlc) (nI clc) (nI sc) solM livM misF (nI qt) (-10) (d + 1) (nI i) a_ctorType a_ctorFirst a_ctorSecond a_typeSize a_typeCtors a_rowFirst a_rowSize a_guardKind a_guardA a_guardB a_clauseFirst a_nodeKind a_nodeArg a_nodePos a_nodeRow a_altOf a_altSide a_nodeNew a_after a_holePos a_holeType a_holeOwner a_holeSide a_clauseRow a_clauseNodes a_clauseTests a_testHead a_clauseBind a_litCount a_lits a_freshInt a_stateMask a_stateOpen a_statePos a_stateNext a_child a_bucketHead a_pin a_marked a_queue a_val a_valType BD := by
        intro d
        induction d with
        | zero =>
          intro i BD hi hBD
          have : i = 4 := by omega
          subst this
          refine br_t (nI_le (a := 4) (b := 4) (by omega) (by omega)) (rl_yrun hT hN hV hful c0 (Or.inr ⟨hno', fun BD' LK HT PT BN hBD' => ⟨rfl, ?_⟩⟩))
          exact zz_in ⟨fr, sz, cf, hT, hN, hO, hV, fun v hv => (hBD v hv).trans (hBD' v hv).symm, hG, h0, h1⟩
        | succ d ih =>
          intro i BD hi hBD
          refine br_f (nI_ge (a := i) (b := 4) (by omega) (by omega)) (br_f (by decide) ⟨vp_in_nI (by omega) (by omega), nm_r (e' := upd BD i 0) (by rw [nI_clamp (by omega)]) (nm_r (nI_1 i) (ih (i + 1) _ (by omega) (fun x hx => ?_)))⟩)
          by_cases q : x = i
          · subst q; exact pk_us
          · rw [pk_un q]; exact hBD x (by omega)
      exact ⟨5, loop 4 0 a_bound (by omega) (fun x hx => by omega)⟩
    · have hs := (sel c).mp hm
      obtain ⟨r, hr, hfc⟩ := selrow c hs
      obtain ⟨x1, x2, x3, x4⟩ := rl_xr hT hN hr hfc.1 hfc.2.1
      rw [x2] at hg
      have hbef' : ∀ q c', q < r → rl_fst a_clauseTests a_testHead cf a_val q c' → ¬ gd_h a_guardKind a_guardA a_guardB (fun x => a_clauseBind (c' * 4 + x)) a_val q := by
        intro q c' hq hc' hg'
        obtain ⟨q0, ⟨d0, hq0, hd0, hg0⟩, hmin⟩ := pk_least (fun q => ∃ c', q < r ∧ rl_fst a_clauseTests a_testHead cf a_val q c' ∧ gd_h a_guardKind a_guardA a_guardB (fun x => a_clauseBind (c' * 4 + x)) a_val q) ⟨q, c', hq, hc', hg'⟩
        obtain ⟨w1, w2, w3, w4⟩ := rl_xr hT hN (by omega) hd0.1 hd0.2.1
        have hdc : d0 < c := by
          have := rl_cfm hN (r - (q0 + 1)) (q0 + 1) (by omega)
          rw [show q0 + 1 + (r - (q0 + 1)) = r by omega] at this
          have := hd0.2.1; have := hfc.1; omega
        refine hbef d0 hdc ((sel d0).mpr ⟨w4, hd0.2.2.1, fun c2 hc2 hm2 => ?_⟩) (by rw [w2]; exact hg0)
        have hsol := (hs.2.2 c2 (by omega) hm2).1
        obtain ⟨q2, y1, y2, y3⟩ := rl_rowof hN (c := c2) (by omega)
        obtain ⟨z1, z2, z3, z4⟩ := rl_xr hT hN y1 y2 y3
        refine ⟨hsol, ?_⟩
        rw [z2, w2]
        intro e; subst e
        exact hd0.2.2.2 c2 y2 hc2 hm2
      have e4 : ∀ i, nI c * 4 + nI i = nI (c * 4 + i) := fun i => by rw [show (4 : Int32) = nI 4 from rfl, pk_mul, nI_add]
      refine br_t (nI_pos' (by omega)) ⟨vp_in_nI (by omega) (by omega), nm_r (e' := nI r) (by rw [nI_clamp (by omega)]; exact x1) ?_⟩
      have loop : ∀ d i BD, i + d = 4 → (∀ x, x < i → BD x = a_clauseBind (c * 4 + x)) → wX_run_58 (fun r u' => wpY_run (fun r' v' => r' = r ∧ i_Rel (k + 4) u' v') (nI tt, nI rl, nI rt, ph, nI cc, nI nc, nI rc, nI hlc, lr, ro, a_ctorType, a_ctorFirst, a_ctorSecond, a_nodeKind, a_nodeArg, a_nodePos, a_nodeRow, b_nUp, a_rowFirst, b_rowSize, a_guardKind, a_guardA, a_guardB, b_holePos, b_holeType, b_holeUp, b_head, b_headType, b_binds, b_look, b_lookType, b_bound, b_hit, b_part)) (nI c) (nI tt) (nI rl) (nI rt) ph (nI cc) (nI rc) ro (nI nc) (nI hlc) (nI clc) (nI sc) solM livM misF (nI qt) (nI r) (d + 1) (nI i) a_ctorType a_ctorFirst a_ctorSecond a_typeSize a_typeCtors a_rowFirst a_rowSize a_guardKind a_guardA a_guardB a_clauseFirst a_nodeKind a_nodeArg a_nodePos a_nodeRow a_altOf a_altSide a_nodeNew a_after a_holePos a_holeType a_holeOwner a_holeSide a_clauseRow a_clauseNodes a_clauseTests a_testHead a_clauseBind a_litCount a_lits a_freshInt a_stateMask a_stateOpen a_statePos a_stateNext a_child a_bucketHead a_pin a_marked a_queue a_val a_valType BD := by
        intro d
        induction d with
        | zero =>
          intro i BD hi hBD
          have : i = 4 := by omega
          subst this
          refine br_t (nI_le (a := 4) (b := 4) (by omega) (by omega)) (rl_yrun hT hN hV hful c0 (Or.inl ⟨r, c, hr, hfc, hg, hbef', fun BD' LK HT PT BN hBD' => ⟨rfl, ?_⟩⟩))
          exact zz_in ⟨fr, sz, cf, hT, hN, hO, hV, fun v hv => (hBD v hv).trans (hBD' v hv).symm, hG, h0, h1⟩
        | succ d ih =>
          intro i BD hi hBD
          refine br_f (nI_ge (a := i) (b := 4) (by omega) (by omega)) (br_t (nI_pos' (by omega)) ?_)
          rw [e4 i, nI_clamp (by omega : c * 4 + i < 2 ^ 31)]
          refine ⟨vp_in_nI (by omega) (by omega), vp_in_nI (by omega) (by omega), nm_r (e' := upd BD i (a_clauseBind (c * 4 + i))) (by rw [nI_clamp (by omega)]) (nm_r (nI_1 i) (ih (i + 1) _ (by omega) (fun x hx => ?_)))⟩
          by_cases q : x = i
          · subst q; exact pk_us
          · rw [pk_un q]; exact hBD x (by omega)
      exact ⟨5, loop 4 0 a_bound (by omega) (fun x hx => by omega)⟩
end
end
section
section
variable {tt rl rt cc rc nc hlc clc sc qt : Nat} {ph ro misF lr : Int32} {solM livM : Int64} {a_ctorType a_ctorFirst a_ctorSecond a_typeSize a_typeCtors a_rowFirst a_rowSize a_guardKind a_guardA a_guardB a_clauseFirst a_nodeKind a_nodeArg a_nodePos a_nodeRow a_altOf a_altSide a_nodeNew a_after a_holePos a_holeType a_holeOwner a_holeSide a_clauseRow a_clauseTests a_testHead a_clauseBind a_litCount a_lits a_freshInt a_stateOpen a_statePos a_stateNext a_child a_bucketHead a_pin a_marked a_queue a_val a_valType a_bound : Nat → Int32} {a_clauseNodes a_stateMask : Nat → Int64} {b_nUp b_rowSize b_holePos b_holeType b_holeUp b_head b_headType b_binds b_look b_lookType b_bound b_hit b_part : Nat → Int32}
variable {k : Nat} {fr sz cf : Nat → Nat}
theorem rl_pl (h : rl_V rt cc ph a_ctorType a_ctorFirst a_ctorSecond a_valType a_val b_headType b_head) {p : Nat} (p1 : 1 ≤ p) (p7 : p ≤ 7) : xv_pl rt cc a_ctorFirst a_ctorSecond b_headType b_head p = xv_pl rt cc a_ctorFirst a_ctorSecond a_valType a_val p := by
  unfold xv_pl
  by_cases q : p = 1
  · rw [if_pos q, if_pos q]
  · rw [if_neg q, if_neg q]
    obtain ⟨a, b, _⟩ := h.1 (p / 2) (by omega) (by omega)
    rw [a]
    by_cases z : a_valType (p / 2) = -1
    · unfold xc_f; rw [if_pos (Or.inl (by rw [z]; decide)), if_pos (Or.inl (by rw [z]; decide))]
    · rw [b z]
def sh_bel (p q : Nat) : Prop := q / 2 = p ∨ q / 4 = p
theorem xw_sh80 {post : Int32 → SX → Prop} {p : Nat} (p1 : 1 ≤ p) (p7 : p ≤ 7)
    (h : ∀ V VT BD, (∀ q, 1 ≤ q → q ≤ 7 → (sh_bel p q → VT q = -1) ∧ (¬ sh_bel p q → V q = a_val q ∧ VT q = a_valType q)) → (∀ v, v < 4 → BD v = 0) → post 0 (nI tt, nI rl, nI rt, ph, nI cc, nI rc, ro, nI nc, nI hlc, nI clc, nI sc, solM, livM, misF, nI qt, -11, a_ctorType, a_ctorFirst, a_ctorSecond, a_typeSize, a_typeCtors, a_rowFirst, a_rowSize, a_guardKind, a_guardA, a_guardB, a_clauseFirst, a_nodeKind, a_nodeArg, a_nodePos, a_nodeRow, a_altOf, a_altSide, a_nodeNew, a_after, a_holePos, a_holeType, a_holeOwner, a_holeSide, a_clauseRow, a_clauseNodes, a_clauseTests, a_testHead, a_clauseBind, a_litCount, a_lits, a_freshInt, a_stateMask, a_stateOpen, a_statePos, a_stateNext, a_child, a_bucketHead, a_pin, a_marked, a_queue, V, VT, BD)) : ∃ n, wX_setHead_80 post (nI p) n 2 (nI tt) (nI rl) (nI rt) ph (nI cc) (nI rc) ro (nI nc) (nI hlc) (nI clc) (nI sc) solM livM misF (nI qt) lr a_ctorType a_ctorFirst a_ctorSecond a_typeSize a_typeCtors a_rowFirst a_rowSize a_guardKind a_guardA a_guardB a_clauseFirst a_nodeKind a_nodeArg a_nodePos a_nodeRow a_altOf a_altSide a_nodeNew a_after a_holePos a_holeType a_holeOwner a_holeSide a_clauseRow a_clauseNodes a_clauseTests a_testHead a_clauseBind a_litCount a_lits a_freshInt a_stateMask a_stateOpen a_statePos a_stateNext a_child a_bucketHead a_pin a_marked a_queue a_val a_valType a_bound := by
  have loop : ∀ d i V VT, i + d = 8 → 2 ≤ i → (∀ q, 1 ≤ q → q ≤ 7 → ((sh_bel p q ∧ q < i) → VT q = -1) ∧ (¬ (sh_bel p q ∧ q < i) → V q = a_val q ∧ VT q = a_valType q)) → wX_setHead_80 post (nI p) (d + 1) (nI i) (nI tt) (nI rl) (nI rt) ph (nI cc) (nI rc) ro (nI nc) (nI hlc) (nI clc) (nI sc) solM livM misF (nI qt) lr a_ctorType a_ctorFirst a_ctorSecond a_typeSize a_typeCtors a_rowFirst a_rowSize a_guardKind a_guardA a_guardB a_clauseFirst a_nodeKind a_nodeArg a_nodePos a_nodeRow a_altOf a_altSide a_nodeNew a_after a_holePos a_holeType a_holeOwner a_holeSide a_clauseRow a_clauseNodes a_clauseTests a_testHead a_clauseBind a_litCount a_lits a_freshInt a_stateMask a_stateOpen a_statePos a_stateNext a_child a_bucketHead a_pin a_marked a_queue V VT a_bound := by
    intro d
    induction d with
    | zero =>
      intro i V VT hi i2 hI
      have : i = 8 := by omega
      subst this
      refine br_t (nI_le (a := 8) (b := 8) (by omega) (by omega)) (xw_forget (fun BD hBD => h V VT BD (fun q q1 q7 => ⟨fun z => (hI q q1 q7).1 ⟨z, by omega⟩, fun z => (hI q q1 q7).2 (fun y => z y.1)⟩) hBD))
    | succ d ih =>
      intro i V VT hi i2 hI
      have e1 : nI i >>> ((1 : Int32) &&& 31) = nI (i / 2) := pk_shrN (by omega) _ 1 (by decide)
      have e2 : nI i >>> ((2 : Int32) &&& 31) = nI (i / 4) := pk_shrN (by omega) _ 2 (by decide)
      have uns : sh_bel p i → wX_setHead_103 post (wX_setHead_80 post (nI p) (d + 1)) (nI p) (nI i) (nI tt) (nI rl) (nI rt) ph (nI cc) (nI rc) ro (nI nc) (nI hlc) (nI clc) (nI sc) solM livM misF (nI qt) lr a_ctorType a_ctorFirst a_ctorSecond a_typeSize a_typeCtors a_rowFirst a_rowSize a_guardKind a_guardA a_guardB a_clauseFirst a_nodeKind a_nodeArg a_nodePos a_nodeRow a_altOf a_altSide a_nodeNew a_after a_holePos a_holeType a_holeOwner a_holeSide a_clauseRow a_clauseNodes a_clauseTests a_testHead a_clauseBind a_litCount a_lits a_freshInt a_stateMask a_stateOpen a_statePos a_stateNext a_child a_bucketHead a_pin a_marked a_queue V VT a_bound := by
        intro hb
        unfold wX_setHead_103
        refine xw_unset (by omega) (nm_r (nI_1 i) (ih (i + 1) _ _ (by omega) (by omega) (fun q q1 q7 => ⟨fun z => ?_, fun z => ?_⟩)))
        · by_cases y : q = i
          · subst y; exact pk_us
          · rw [pk_un y]; exact (hI q q1 q7).1 ⟨z.1, by omega⟩
        · have y : q ≠ i := by rintro rfl; exact z ⟨hb, by omega⟩
          rw [pk_un y, pk_un y]
          exact (hI q q1 q7).2 (fun w => z ⟨w.1, by omega⟩)
      refine br_f (nI_ge (a := i) (b := 8) (by omega) (by omega)) ?_
      rw [e1, e2]
      refine pk_eq (i / 2) p (fun z => uns (Or.inl z)) (fun z => pk_eq (i / 4) p (fun y => uns (Or.inr y)) (fun y => nm_r (nI_1 i) (ih (i + 1) V VT (by omega) (by omega) (fun q q1 q7 => ⟨fun w => ?_, fun w => ?_⟩))))
      · have : q ≠ i := by rintro rfl; rcases w.1 with w | w; exact z w; exact y w
        exact (hI q q1 q7).1 ⟨w.1, by omega⟩
      · exact (hI q q1 q7).2 (fun v => w ⟨v.1, by omega⟩)
  exact ⟨7, loop 6 2 a_val a_valType (by omega) (by omega) (fun q q1 q7 => ⟨fun z => by unfold sh_bel at z; omega, fun _ => ⟨rfl, rfl⟩⟩)⟩
theorem yw_sh114 {post : Int32 → SY → Prop} {p : Nat} (p1 : 1 ≤ p) (p7 : p ≤ 7)
    (h : ∀ HY BD, (∀ q, 1 ≤ q → q ≤ 7 → (sh_bel p q → HY q = -1) ∧ (¬ sh_bel p q → HY q = b_headType q)) → (∀ v, v < 4 → BD v = 0) → post 0 (nI tt, nI rl, nI rt, ph, nI cc, nI nc, nI rc, nI hlc, -11, ro, a_ctorType, a_ctorFirst, a_ctorSecond, a_nodeKind, a_nodeArg, a_nodePos, a_nodeRow, b_nUp, a_rowFirst, b_rowSize, a_guardKind, a_guardA, a_guardB, b_holePos, b_holeType, b_holeUp, b_head, HY, BD, b_look, b_lookType, b_bound, b_hit, b_part)) : ∃ n, wY_setHead_114 post (nI p) (nI tt) (nI rl) (nI rt) ph (nI cc) (nI nc) (nI rc) (nI hlc) lr ro n (nI (p + 1)) a_ctorType a_ctorFirst a_ctorSecond a_nodeKind a_nodeArg a_nodePos a_nodeRow b_nUp a_rowFirst b_rowSize a_guardKind a_guardA a_guardB b_holePos b_holeType b_holeUp b_head b_headType b_binds b_look b_lookType b_bound b_hit b_part := by
  have loop : ∀ d i HY, i + d = 8 → p < i → (∀ q, 1 ≤ q → q ≤ 7 → ((sh_bel p q ∧ q < i) → HY q = -1) ∧ (¬ (sh_bel p q ∧ q < i) → HY q = b_headType q)) → wY_setHead_114 post (nI p) (nI tt) (nI rl) (nI rt) ph (nI cc) (nI nc) (nI rc) (nI hlc) lr ro (d + 1) (nI i) a_ctorType a_ctorFirst a_ctorSecond a_nodeKind a_nodeArg a_nodePos a_nodeRow b_nUp a_rowFirst b_rowSize a_guardKind a_guardA a_guardB b_holePos b_holeType b_holeUp b_head HY b_binds b_look b_lookType b_bound b_hit b_part := by
    intro d
    induction d with
    | zero =>
      intro i HY hi ip hI
      have : i = 8 := by omega
      subst this
      refine br_t (nI_lt (a := 7) (b := 8) (by omega) (by omega)) (yw_forget (fun BD hBD => h HY BD (fun q q1 q7 => ⟨fun z => (hI q q1 q7).1 ⟨z, by omega⟩, fun z => (hI q q1 q7).2 (fun y => z y.1)⟩) hBD))
    | succ d ih =>
      intro i HY hi ip hI
      have e1 : nI i / 2 = nI (i / 2) := pk_div (d := 2) (by omega) (by omega) (by omega)
      have e2 : nI i / 4 = nI (i / 4) := pk_div (d := 4) (by omega) (by omega) (by omega)
      have e : (nI i).toNatClampNeg = i := nI_clamp (by omega)
      have w : vp_in (nI i) 8 := vp_in_nI (by omega) (by omega)
      have uns : sh_bel p i → wY_setHead_114 post (nI p) (nI tt) (nI rl) (nI rt) ph (nI cc) (nI nc) (nI rc) (nI hlc) lr ro (d + 1) (nI (i + 1)) a_ctorType a_ctorFirst a_ctorSecond a_nodeKind a_nodeArg a_nodePos a_nodeRow b_nUp a_rowFirst b_rowSize a_guardKind a_guardA a_guardB b_holePos b_holeType b_holeUp b_head (upd HY i (-1)) b_binds b_look b_lookType b_bound b_hit b_part := by
        intro hb
        refine ih (i + 1) _ (by omega) (by omega) (fun q q1 q7 => ⟨fun z => ?_, fun z => ?_⟩)
        · by_cases y : q = i
          · subst y; exact pk_us
          · rw [pk_un y]; exact (hI q q1 q7).1 ⟨z.1, by omega⟩
        · have y : q ≠ i := by rintro rfl; exact z ⟨hb, by omega⟩
          rw [pk_un y]
          exact (hI q q1 q7).2 (fun w => z ⟨w.1, by omega⟩)
      refine br_f (nI_nlt (a := 7) (b := i) (by omega) (by omega)) ⟨by decide, ?_⟩
      rw [e1, e2]
      refine pk_eq (i / 2) p (fun z => ⟨w, nm_r (e' := upd HY i (-1)) (by rw [e]) (nm_r (nI_1 i) (uns (Or.inl z)))⟩) (fun z => ⟨by decide, pk_eq (i / 4) p (fun y => ⟨w, nm_r (e' := upd HY i (-1)) (by rw [e]) (nm_r (nI_1 i) (uns (Or.inr y)))⟩) (fun y => nm_r (nI_1 i) (ih (i + 1) HY (by omega) (by omega) (fun q q1 q7 => ⟨fun w => ?_, fun w => ?_⟩)))⟩)
      · have : q ≠ i := by rintro rfl; rcases w.1 with w | w; exact z w; exact y w
        exact (hI q q1 q7).1 ⟨w.1, by omega⟩
      · exact (hI q q1 q7).2 (fun v => w ⟨v.1, by omega⟩)
  exact ⟨8 - (p + 1) + 1, loop (8 - (p + 1)) (p + 1) b_headType (by omega) (by omega) (fun q q1 q7 => ⟨fun z => by unfold sh_bel at z; omega, fun _ => rfl⟩)⟩
theorem rl_setV {p : Nat} {x : Int32} {V VT HY : Nat → Int32} (hV : rl_V rt cc ph a_ctorType a_ctorFirst a_ctorSecond a_valType a_val b_headType b_head) (hT : rl_T tt rl rt cc ph a_ctorType a_ctorFirst a_ctorSecond a_typeSize a_typeCtors) (cz : ph ≠ 0) (p1 : 1 ≤ p) (p7 : p ≤ 7) (hpl : xv_pl rt cc a_ctorFirst a_ctorSecond a_valType a_val p ≠ -1) (hx : xv_pl rt cc a_ctorFirst a_ctorSecond a_valType a_val p ≠ 0 → ∃ c, c < cc ∧ x = nI c ∧ a_ctorType c = xv_pl rt cc a_ctorFirst a_ctorSecond a_valType a_val p)
    (h1 : ∀ q, 1 ≤ q → q ≤ 7 → (sh_bel p q → VT q = -1) ∧ (¬ sh_bel p q → V q = upd a_val p x q ∧ VT q = upd a_valType p (xv_pl rt cc a_ctorFirst a_ctorSecond a_valType a_val p) q)) (h2 : ∀ q, 1 ≤ q → q ≤ 7 → (sh_bel p q → HY q = -1) ∧ (¬ sh_bel p q → HY q = upd b_headType p (xv_pl rt cc a_ctorFirst a_ctorSecond a_valType a_val p) q)) : rl_V rt cc ph a_ctorType a_ctorFirst a_ctorSecond VT V HY (upd b_head p x) := by
  obtain ⟨r1, r2, r3, r4⟩ := rl_rtn hT
  have hF : xc_F cc a_ctorFirst a_ctorSecond := cf_F hT.1.2.1 hT.2.2.2.1
  have nbp : ¬ sh_bel p p := by unfold sh_bel; omega
  have plk : ∀ q, 1 ≤ q → q ≤ 7 → ¬ sh_bel p q → xv_pl rt cc a_ctorFirst a_ctorSecond VT V q = xv_pl rt cc a_ctorFirst a_ctorSecond a_valType a_val q := by
    intro q q1 q7 hb
    unfold xv_pl
    by_cases z : q = 1
    · rw [if_pos z, if_pos z]
    · rw [if_neg z, if_neg z]
      have hp2 : q / 2 ≠ p := fun y => hb (Or.inl y)
      have hb2 : ¬ sh_bel p (q / 2) := by
        unfold sh_bel at *
        omega
      obtain ⟨a, b⟩ := (h1 (q / 2) (by omega) (by omega)).2 hb2
      rw [a, b, pk_un hp2, pk_un hp2]
  have plr : xv_pl rt cc a_ctorFirst a_ctorSecond a_valType a_val p = -1 ∨ ∃ kk, kk ≤ 4 ∧ xv_pl rt cc a_ctorFirst a_ctorSecond a_valType a_val p = nI kk := by
    unfold xv_pl
    split
    · exact Or.inr ⟨rt, r2, rfl⟩
    · by_cases z : xc_f cc a_ctorFirst a_ctorSecond (a_valType (p / 2)) (a_val (p / 2)) p = -1
      · exact Or.inl z
      · exact Or.inr (xc_f_ty hF r4 z)
  refine ⟨fun q q1 q7 => ?_, fun q q1 q7 => ?_, fun z => absurd z cz⟩
  · by_cases hb : sh_bel p q
    · have a := (h1 q q1 q7).1 hb
      have b := (h2 q q1 q7).1 hb
      exact ⟨b.trans a.symm, fun z => absurd a z, fun z => absurd a z, fun z => absurd a z⟩
    · obtain ⟨a1, a2⟩ := (h1 q q1 q7).2 hb
      have b := (h2 q q1 q7).2 hb
      by_cases z : q = p
      · subst z
        rw [pk_us] at a1 a2 b
        refine ⟨b.trans a2.symm, fun _ => by rw [pk_us, a1], fun _ => by rw [a2, plk q q1 q7 hb], fun _ y => ?_⟩
        rw [a2] at y ⊢
        rw [a1]
        exact hx y
      · rw [pk_un z] at a1 a2 b
        obtain ⟨c1, c2, c3, c4⟩ := hV.1 q q1 q7
        refine ⟨b.trans (c1.trans a2.symm), fun y => ?_, fun y => ?_, fun y w => ?_⟩
        · rw [pk_un z, a1]; exact c2 (by rw [← a2]; exact y)
        · rw [a2] at y ⊢; rw [plk q q1 q7 hb]; exact c3 y
        · rw [a2] at y w ⊢; rw [a1]; exact c4 y w
  · by_cases hb : sh_bel p q
    · exact Or.inl ((h1 q q1 q7).1 hb)
    · obtain ⟨a1, a2⟩ := (h1 q q1 q7).2 hb
      rw [a2]
      by_cases z : q = p
      · subst z; rw [pk_us]; exact plr
      · rw [pk_un z]; exact hV.2.1 q q1 q7
theorem vc_setHead (hA : rl_All tt rl rt cc ph a_ctorType a_ctorFirst a_ctorSecond a_typeSize a_typeCtors rc nc clc a_nodeKind a_nodeArg a_nodePos a_nodeRow b_nUp a_altOf a_altSide a_nodeNew a_rowFirst a_rowSize b_rowSize a_guardKind a_guardA a_guardB a_clauseFirst a_clauseRow a_clauseNodes a_clauseTests a_testHead a_clauseBind hlc ro a_holePos a_holeType a_holeOwner a_holeSide b_holePos b_holeType b_holeUp a_valType a_val b_headType b_head sc misF solM livM a_litCount a_lits a_freshInt a_stateMask a_stateOpen a_statePos a_child a_bound b_binds) (v1 v2 : Int32) : wpX_setHead (fun r u' => wpY_setHead (fun r' v' => r' = r ∧ i_Rel (k + 4) u' v') (nI tt, nI rl, nI rt, ph, nI cc, nI nc, nI rc, nI hlc, lr, ro, a_ctorType, a_ctorFirst, a_ctorSecond, a_nodeKind, a_nodeArg, a_nodePos, a_nodeRow, b_nUp, a_rowFirst, b_rowSize, a_guardKind, a_guardA, a_guardB, b_holePos, b_holeType, b_holeUp, b_head, b_headType, b_binds, b_look, b_lookType, b_bound, b_hit, b_part) v1 v2) (nI tt, nI rl, nI rt, ph, nI cc, nI rc, ro, nI nc, nI hlc, nI clc, nI sc, solM, livM, misF, nI qt, lr, a_ctorType, a_ctorFirst, a_ctorSecond, a_typeSize, a_typeCtors, a_rowFirst, a_rowSize, a_guardKind, a_guardA, a_guardB, a_clauseFirst, a_nodeKind, a_nodeArg, a_nodePos, a_nodeRow, a_altOf, a_altSide, a_nodeNew, a_after, a_holePos, a_holeType, a_holeOwner, a_holeSide, a_clauseRow, a_clauseNodes, a_clauseTests, a_testHead, a_clauseBind, a_litCount, a_lits, a_freshInt, a_stateMask, a_stateOpen, a_statePos, a_stateNext, a_child, a_bucketHead, a_pin, a_marked, a_queue, a_val, a_valType, a_bound) v1 v2 := by
  have R : i_Rel (k + 4) (nI tt, nI rl, nI rt, ph, nI cc, nI rc, ro, nI nc, nI hlc, nI clc, nI sc, solM, livM, misF, nI qt, lr, a_ctorType, a_ctorFirst, a_ctorSecond, a_typeSize, a_typeCtors, a_rowFirst, a_rowSize, a_guardKind, a_guardA, a_guardB, a_clauseFirst, a_nodeKind, a_nodeArg, a_nodePos, a_nodeRow, a_altOf, a_altSide, a_nodeNew, a_after, a_holePos, a_holeType, a_holeOwner, a_holeSide, a_clauseRow, a_clauseNodes, a_clauseTests, a_testHead, a_clauseBind, a_litCount, a_lits, a_freshInt, a_stateMask, a_stateOpen, a_statePos, a_stateNext, a_child, a_bucketHead, a_pin, a_marked, a_queue, a_val, a_valType, a_bound) (nI tt, nI rl, nI rt, ph, nI cc, nI nc, nI rc, nI hlc, lr, ro, a_ctorType, a_ctorFirst, a_ctorSecond, a_nodeKind, a_nodeArg, a_nodePos, a_nodeRow, b_nUp, a_rowFirst, b_rowSize, a_guardKind, a_guardA, a_guardB, b_holePos, b_holeType, b_holeUp, b_head, b_headType, b_binds, b_look, b_lookType, b_bound, b_hit, b_part) := zz_in hA
  obtain ⟨fr, sz, cf, hT, hN, hO, hV, hB, hG, h0, h1⟩ := hA
  obtain ⟨r1, r2, r3, r4⟩ := rl_rtn hT
  by_cases c0 : ph = 0
  · exact br_t c0 (br_t c0 ⟨rfl, R⟩)
  by_cases c1 : v1 < 1
  · exact br_f c0 (br_t c1 (br_f c0 (br_t c1 ⟨rfl, R⟩)))
  by_cases c7 : ¬ v1 ≤ 7
  · exact br_f c0 (br_f c1 (br_f c7 (br_f c0 (br_f c1 (br_f c7 ⟨rfl, R⟩)))))
  have c7 := Classical.not_not.mp c7
  have n0 : ¬ v1 < 0 := fun z => c1 (Int32.lt_trans z (by decide))
  obtain ⟨p, p7, rfl⟩ := nI_of2 (M := 7) (n := 7) (by decide) n0 c7
  have p1 : 1 ≤ p := by
    rcases Nat.eq_zero_or_pos p with z | z
    · subst z; exact absurd (by decide) c1
    · exact z
  have ep : (nI p).toNatClampNeg = p := nI_clamp (by omega)
  have wp : vp_in (nI p) 8 := vp_in_nI (by omega) (by omega)
  have ytop : ∀ post : Int32 → SY → Prop, wY_setHead_57 post (nI p) v2 (xv_pl rt cc a_ctorFirst a_ctorSecond a_valType a_val p) (nI tt) (nI rl) (nI rt) ph (nI cc) (nI nc) (nI rc) (nI hlc) lr ro a_ctorType a_ctorFirst a_ctorSecond a_nodeKind a_nodeArg a_nodePos a_nodeRow b_nUp a_rowFirst b_rowSize a_guardKind a_guardA a_guardB b_holePos b_holeType b_holeUp b_head b_headType b_binds b_look b_lookType b_bound b_hit b_part → wpY_setHead post (nI tt, nI rl, nI rt, ph, nI cc, nI nc, nI rc, nI hlc, lr, ro, a_ctorType, a_ctorFirst, a_ctorSecond, a_nodeKind, a_nodeArg, a_nodePos, a_nodeRow, b_nUp, a_rowFirst, b_rowSize, a_guardKind, a_guardA, a_guardB, b_holePos, b_holeType, b_holeUp, b_head, b_headType, b_binds, b_look, b_lookType, b_bound, b_hit, b_part) (nI p) v2 := by
    intro post hp
    rw [← rl_pl hV p1 p7] at hp
    unfold xv_pl at hp
    refine br_f c0 (br_f c1 (br_t c7 ?_))
    by_cases q : p = 1
    · subst q; rw [if_pos rfl] at hp; exact br_t rfl hp
    · rw [if_neg q] at hp
      have ne1 : ¬ nI p = 1 := fun z => q ((nI_eq (a := p) (b := 1) (by omega) (by omega)).mp z)
      have ed : nI p / 2 = nI (p / 2) := pk_div (d := 2) (by omega) (by omega) (by omega)
      have w2 : vp_in (nI (p / 2)) 8 := vp_in_nI (by omega) (by omega)
      refine br_f ne1 ?_
      rw [ed, nI_clamp (by omega : p / 2 < 2 ^ 31)]
      exact ⟨by decide, w2, by decide, w2, yw_fieldType r4 p7 hp⟩
  have store : ∀ t, xv_pl rt cc a_ctorFirst a_ctorSecond a_valType a_val p = t → t ≠ -1 → (t ≠ 0 → ∃ c, c < cc ∧ v2 = nI c ∧ a_ctorType c = t) → (∀ post : Int32 → SY → Prop, wY_setHead_95 post (nI p) v2 t (nI tt) (nI rl) (nI rt) ph (nI cc) (nI nc) (nI rc) (nI hlc) lr ro a_ctorType a_ctorFirst a_ctorSecond a_nodeKind a_nodeArg a_nodePos a_nodeRow b_nUp a_rowFirst b_rowSize a_guardKind a_guardA a_guardB b_holePos b_holeType b_holeUp b_head b_headType b_binds b_look b_lookType b_bound b_hit b_part → wpY_setHead post (nI tt, nI rl, nI rt, ph, nI cc, nI nc, nI rc, nI hlc, lr, ro, a_ctorType, a_ctorFirst, a_ctorSecond, a_nodeKind, a_nodeArg, a_nodePos, a_nodeRow, b_nUp, a_rowFirst, b_rowSize, a_guardKind, a_guardA, a_guardB, b_holePos, b_holeType, b_holeUp, b_head, b_headType, b_binds, b_look, b_lookType, b_bound, b_hit, b_part) (nI p) v2) →
      wX_setHead_63 (fun r u' => wpY_setHead (fun r' v' => r' = r ∧ i_Rel (k + 4) u' v') (nI tt, nI rl, nI rt, ph, nI cc, nI nc, nI rc, nI hlc, lr, ro, a_ctorType, a_ctorFirst, a_ctorSecond, a_nodeKind, a_nodeArg, a_nodePos, a_nodeRow, b_nUp, a_rowFirst, b_rowSize, a_guardKind, a_guardA, a_guardB, b_holePos, b_holeType, b_holeUp, b_head, b_headType, b_binds, b_look, b_lookType, b_bound, b_hit, b_part) (nI p) v2) (nI p) v2 t (nI tt) (nI rl) (nI rt) ph (nI cc) (nI rc) ro (nI nc) (nI hlc) (nI clc) (nI sc) solM livM misF (nI qt) lr a_ctorType a_ctorFirst a_ctorSecond a_typeSize a_typeCtors a_rowFirst a_rowSize a_guardKind a_guardA a_guardB a_clauseFirst a_nodeKind a_nodeArg a_nodePos a_nodeRow a_altOf a_altSide a_nodeNew a_after a_holePos a_holeType a_holeOwner a_holeSide a_clauseRow a_clauseNodes a_clauseTests a_testHead a_clauseBind a_litCount a_lits a_freshInt a_stateMask a_stateOpen a_statePos a_stateNext a_child a_bucketHead a_pin a_marked a_queue a_val a_valType a_bound := by
    intro t et tn hc hY
    unfold wX_setHead_63
    rw [ep]
    refine ⟨wp, nm_e ⟨wp, nm_e (xw_sh80 p1 p7 (fun V VT BD hVV hBD => hY _ ?_))⟩⟩
    unfold wY_setHead_95
    rw [ep]
    refine ⟨wp, nm_e ⟨wp, nm_e (nm_r (nI_1 p) (yw_sh114 p1 p7 (fun HY BD' hHY hBD' => ⟨rfl, ?_⟩)))⟩⟩
    subst et
    exact zz_in ⟨fr, sz, cf, hT, hN, hO, rl_setV (x := v2) hV hT c0 p1 p7 tn hc hVV hHY, fun v hv => (hBD v hv).trans (hBD' v hv).symm, hG, h0, h1⟩
  refine br_f c0 (br_f c1 (br_t c7 ?_))
  by_cases pm : xv_pl rt cc a_ctorFirst a_ctorSecond a_valType a_val p = -1
  · refine xw_placeType2 r4 p1 p7 hV.2.1 pm (br_t rfl (ytop _ ?_))
    unfold wY_setHead_57
    exact br_t pm ⟨rfl, R⟩
  by_cases pz : xv_pl rt cc a_ctorFirst a_ctorSecond a_valType a_val p = 0
  · refine xw_placeType2 r4 p1 p7 hV.2.1 pz (br_f (by decide) (br_t rfl (store 0 pz (by decide) (fun z => absurd rfl z) (fun post hp => ytop _ ?_))))
    rw [pz]
    unfold wY_setHead_57
    exact br_f (by decide) (br_t rfl hp)
  · refine xw_placeType2 r4 p1 p7 hV.2.1 rfl (br_f pm (br_f pz (xw_isCtor (fun z => br_t rfl (ytop _ ?_)) (fun z0 z1 => br_f (by decide) ?_))))
    · unfold wY_setHead_57
      refine br_f pm (br_f pz ?_)
      by_cases y : v2 < 0
      · exact br_t y ⟨rfl, R⟩
      · exact br_f y (br_t (z.resolve_left y) ⟨rfl, R⟩)
    · obtain ⟨c, hc, rfl⟩ := rl_ix z0 z1
      have ec : (nI c).toNatClampNeg = c := nI_clamp (by omega)
      have wc : vp_in (nI c) 12 := vp_in_nI (by omega) (by omega)
      refine ⟨wc, br_c (fun y => store _ rfl pm (fun _ => ⟨c, hc, rfl, by rw [ec] at y; exact y⟩) (fun post hp => ytop _ ?_)) (fun y => ytop _ ?_)⟩
      · unfold wY_setHead_57
        exact br_f pm (br_f pz (br_f z0 (br_f z1 ⟨wc, br_t y hp⟩)))
      · unfold wY_setHead_57
        exact br_f pm (br_f pz (br_f z0 (br_f z1 ⟨wc, br_f y ⟨rfl, R⟩⟩)))
end
end
section
def rl_HX (HP HY HO HS : Nat → Int32) : List tr_H → Prop
  | [] => True
  | h :: hs => HP hs.length = nI h.1 ∧ HY hs.length = h.2.1 ∧ HO hs.length = h.2.2.2.1 ∧ HS hs.length = h.2.2.2.2 ∧ rl_HX HP HY HO HS hs
def rl_HY (bP bY bU : Nat → Int32) : List tr_H → Prop
  | [] => True
  | h :: hs => bP hs.length = nI h.1 ∧ bY hs.length = h.2.1 ∧ bU hs.length = h.2.2.1 ∧ rl_HY bP bY bU hs
theorem rl_H_split {HP HY HO HS bP bY bU : Nat → Int32} : ∀ hs, rl_H HP HY HO HS bP bY bU hs ↔ rl_HX HP HY HO HS hs ∧ rl_HY bP bY bU hs := by
  intro hs
  induction hs with
  | nil => exact ⟨fun _ => ⟨trivial, trivial⟩, fun _ => trivial⟩
  | cons h hs ih =>
    constructor
    · rintro ⟨a, b, c, d, e, f, g, i⟩
      exact ⟨⟨a, b, c, d, (ih.mp i).1⟩, e, f, g, (ih.mp i).2⟩
    · rintro ⟨⟨a, b, c, d, i⟩, e, f, g, j⟩
      exact ⟨a, b, c, d, e, f, g, ih.mpr ⟨i, j⟩⟩
theorem rl_HX_c {HP HY HO HS HP' HY' HO' HS' : Nat → Int32} : ∀ hs : List tr_H, rl_HX HP HY HO HS hs → (∀ j, j < hs.length → HP' j = HP j ∧ HY' j = HY j ∧ HO' j = HO j ∧ HS' j = HS j) → rl_HX HP' HY' HO' HS' hs := by
  intro hs
  induction hs with
  | nil => intro _ _; trivial
  | cons h hs ih =>
    rintro ⟨a, b, c, d, e⟩ hj
    obtain ⟨x1, x2, x3, x4⟩ := hj hs.length (by simp)
    exact ⟨x1.trans a, x2.trans b, x3.trans c, x4.trans d, ih e (fun j hj' => hj j (by simp; omega))⟩
theorem rl_HY_c {bP bY bU bP' bY' bU' : Nat → Int32} : ∀ hs : List tr_H, rl_HY bP bY bU hs → (∀ j, j < hs.length → bP' j = bP j ∧ bY' j = bY j ∧ bU' j = bU j) → rl_HY bP' bY' bU' hs := by
  intro hs
  induction hs with
  | nil => intro _ _; trivial
  | cons h hs ih =>
    rintro ⟨a, b, c, e⟩ hj
    obtain ⟨x1, x2, x3⟩ := hj hs.length (by simp)
    exact ⟨x1.trans a, x2.trans b, x3.trans c, ih e (fun j hj' => hj j (by simp; omega))⟩
theorem rl_HX_push {HP HY HO HS : Nat → Int32} {hs : List tr_H} (h : tr_H) (H : rl_HX HP HY HO HS hs) : rl_HX (upd HP hs.length (nI h.1)) (upd HY hs.length h.2.1) (upd HO hs.length h.2.2.2.1) (upd HS hs.length h.2.2.2.2) (h :: hs) :=
  ⟨pk_us, pk_us, pk_us, pk_us, rl_HX_c hs H (fun j hj => ⟨pk_un (by omega), pk_un (by omega), pk_un (by omega), pk_un (by omega)⟩)⟩
section
variable {tt rl rt cc rc nc hlc clc sc qt : Nat} {ph ro misF lr : Int32} {solM livM : Int64} {a_ctorType a_ctorFirst a_ctorSecond a_typeSize a_typeCtors a_rowFirst a_rowSize a_guardKind a_guardA a_guardB a_clauseFirst a_nodeKind a_nodeArg a_nodePos a_nodeRow a_altOf a_altSide a_nodeNew a_after a_holePos a_holeType a_holeOwner a_holeSide a_clauseRow a_clauseTests a_testHead a_clauseBind a_litCount a_lits a_freshInt a_stateOpen a_statePos a_stateNext a_child a_bucketHead a_pin a_marked a_queue a_val a_valType a_bound : Nat → Int32} {a_clauseNodes a_stateMask : Nat → Int64} {b_nUp b_rowSize b_holePos b_holeType b_holeUp b_head b_headType b_binds b_look b_lookType b_bound b_hit b_part : Nat → Int32}
variable {k : Nat} {fr sz cf : Nat → Nat}
theorem xw_push2 {post : SX → Prop} {hs : List tr_H} (h : tr_H) {a b c d : Int32} (ha : a = nI h.1) (hb : b = h.2.1) (hc : c = h.2.2.2.1) (hd : d = h.2.2.2.2) (hl : hlc = hs.length) (h16 : hs.length < 16) (H : rl_HX a_holePos a_holeType a_holeOwner a_holeSide hs)
    (hp : ∀ HP HY HO HS, rl_HX HP HY HO HS (h :: hs) → post (nI tt, nI rl, nI rt, ph, nI cc, nI rc, ro, nI nc, nI ((h :: hs).length), nI clc, nI sc, solM, livM, misF, nI qt, lr, a_ctorType, a_ctorFirst, a_ctorSecond, a_typeSize, a_typeCtors, a_rowFirst, a_rowSize, a_guardKind, a_guardA, a_guardB, a_clauseFirst, a_nodeKind, a_nodeArg, a_nodePos, a_nodeRow, a_altOf, a_altSide, a_nodeNew, a_after, HP, HY, HO, HS, a_clauseRow, a_clauseNodes, a_clauseTests, a_testHead, a_clauseBind, a_litCount, a_lits, a_freshInt, a_stateMask, a_stateOpen, a_statePos, a_stateNext, a_child, a_bucketHead, a_pin, a_marked, a_queue, a_val, a_valType, a_bound)) : wpX_pushHole post (nI tt, nI rl, nI rt, ph, nI cc, nI rc, ro, nI nc, nI hlc, nI clc, nI sc, solM, livM, misF, nI qt, lr, a_ctorType, a_ctorFirst, a_ctorSecond, a_typeSize, a_typeCtors, a_rowFirst, a_rowSize, a_guardKind, a_guardA, a_guardB, a_clauseFirst, a_nodeKind, a_nodeArg, a_nodePos, a_nodeRow, a_altOf, a_altSide, a_nodeNew, a_after, a_holePos, a_holeType, a_holeOwner, a_holeSide, a_clauseRow, a_clauseNodes, a_clauseTests, a_testHead, a_clauseBind, a_litCount, a_lits, a_freshInt, a_stateMask, a_stateOpen, a_statePos, a_stateNext, a_child, a_bucketHead, a_pin, a_marked, a_queue, a_val, a_valType, a_bound) a b c d := by
  subst ha hb hc hd hl
  exact xw_push h16 (hp _ _ _ _ (rl_HX_push h H))
theorem xw_pushOf {post : SX → Prop} {n p : Nat} {t : Int32} {hs : List tr_H} (hn : n < 48) (hcc : cc ≤ 12) (hc12 : ∀ c, c < cc → a_ctorFirst c = -1 → a_ctorSecond c = -1) (hk1 : a_nodeKind n = 1 → ∃ c, c < cc ∧ a_nodeArg n = nI c) (p7 : p ≤ 7) (hl : hlc = hs.length) (h16 : hs.length + (tr_kids a_nodeKind a_nodeArg a_ctorFirst a_ctorSecond n p t).length ≤ 16) (H : rl_HX a_holePos a_holeType a_holeOwner a_holeSide hs)
    (hp : ∀ HP HY HO HS, rl_HX HP HY HO HS (tr_kids a_nodeKind a_nodeArg a_ctorFirst a_ctorSecond n p t ++ hs) → post (nI tt, nI rl, nI rt, ph, nI cc, nI rc, ro, nI nc, nI ((tr_kids a_nodeKind a_nodeArg a_ctorFirst a_ctorSecond n p t ++ hs).length), nI clc, nI sc, solM, livM, misF, nI qt, lr, a_ctorType, a_ctorFirst, a_ctorSecond, a_typeSize, a_typeCtors, a_rowFirst, a_rowSize, a_guardKind, a_guardA, a_guardB, a_clauseFirst, a_nodeKind, a_nodeArg, a_nodePos, a_nodeRow, a_altOf, a_altSide, a_nodeNew, a_after, HP, HY, HO, HS, a_clauseRow, a_clauseNodes, a_clauseTests, a_testHead, a_clauseBind, a_litCount, a_lits, a_freshInt, a_stateMask, a_stateOpen, a_statePos, a_stateNext, a_child, a_bucketHead, a_pin, a_marked, a_queue, a_val, a_valType, a_bound)) : wpX_pushHolesOf post (nI tt, nI rl, nI rt, ph, nI cc, nI rc, ro, nI nc, nI hlc, nI clc, nI sc, solM, livM, misF, nI qt, lr, a_ctorType, a_ctorFirst, a_ctorSecond, a_typeSize, a_typeCtors, a_rowFirst, a_rowSize, a_guardKind, a_guardA, a_guardB, a_clauseFirst, a_nodeKind, a_nodeArg, a_nodePos, a_nodeRow, a_altOf, a_altSide, a_nodeNew, a_after, a_holePos, a_holeType, a_holeOwner, a_holeSide, a_clauseRow, a_clauseNodes, a_clauseTests, a_testHead, a_clauseBind, a_litCount, a_lits, a_freshInt, a_stateMask, a_stateOpen, a_statePos, a_stateNext, a_child, a_bucketHead, a_pin, a_marked, a_queue, a_val, a_valType, a_bound) (nI n) (nI p) t := by
  have en : (nI n).toNatClampNeg = n := nI_clamp (by omega)
  have wn : vp_in (nI n) 48 := vp_in_nI hn (by omega)
  refine ⟨wn, nm_r (e' := a_nodeKind n) (by rw [en]) ?_⟩
  have none : tr_kids a_nodeKind a_nodeArg a_ctorFirst a_ctorSecond n p t = [] → post (nI tt, nI rl, nI rt, ph, nI cc, nI rc, ro, nI nc, nI hlc, nI clc, nI sc, solM, livM, misF, nI qt, lr, a_ctorType, a_ctorFirst, a_ctorSecond, a_typeSize, a_typeCtors, a_rowFirst, a_rowSize, a_guardKind, a_guardA, a_guardB, a_clauseFirst, a_nodeKind, a_nodeArg, a_nodePos, a_nodeRow, a_altOf, a_altSide, a_nodeNew, a_after, a_holePos, a_holeType, a_holeOwner, a_holeSide, a_clauseRow, a_clauseNodes, a_clauseTests, a_testHead, a_clauseBind, a_litCount, a_lits, a_freshInt, a_stateMask, a_stateOpen, a_statePos, a_stateNext, a_child, a_bucketHead, a_pin, a_marked, a_queue, a_val, a_valType, a_bound) := by
    intro z
    rw [z] at hp
    have := hp a_holePos a_holeType a_holeOwner a_holeSide H
    rw [show (([] : List tr_H) ++ hs).length = hlc from hl.symm] at this
    exact this
  refine br_c (fun k3 => ?_) (fun k3 => br_c (fun k4 => ?_) (fun k4 => br_c (fun k1 => ?_) (fun k1 => none ?_)))
  · have ek : tr_kids a_nodeKind a_nodeArg a_ctorFirst a_ctorSecond n p t = [(p, t, nI n, nI n, 0), (p, t, nI n, nI n, 1)] := by unfold tr_kids; rw [if_pos k3]
    rw [ek] at hp h16
    have h16' : hs.length + 2 ≤ 16 := h16
    refine xw_push2 (p, t, nI n, nI n, 1) rfl rfl rfl rfl hl (by omega) H (fun HP HY HO HS H1 => ?_)
    exact xw_push2 (p, t, nI n, nI n, 0) rfl rfl rfl rfl rfl (by simp; omega) H1 (fun HP HY HO HS H2 => hp HP HY HO HS H2)
  · have ek : tr_kids a_nodeKind a_nodeArg a_ctorFirst a_ctorSecond n p t = [(p, t, nI n, -1, 0)] := by unfold tr_kids; rw [if_neg k3, if_pos k4]
    rw [ek] at hp h16
    have h16' : hs.length + 1 ≤ 16 := h16
    exact xw_push2 (p, t, nI n, -1, 0) rfl rfl rfl rfl hl (by omega) H (fun HP HY HO HS H1 => hp HP HY HO HS H1)
  · obtain ⟨c, c1, c2⟩ := hk1 k1
    have ec : (nI c).toNatClampNeg = c := nI_clamp (by omega)
    have wc : vp_in (nI c) 12 := vp_in_nI (by omega) (by omega)
    refine pk_lt 3 p (fun z => none ?_) (fun z => ⟨wn, nm_r (e' := nI c) (by rw [en]; exact c2) ⟨wc, ?_⟩⟩)
    · unfold tr_kids; rw [if_neg k3, if_neg k4, if_neg (by omega)]
    · have ek : tr_kids a_nodeKind a_nodeArg a_ctorFirst a_ctorSecond n p t = if a_ctorFirst c = -1 then [] else if a_ctorSecond c = -1 then [(2 * p, a_ctorFirst c, nI n, -1, 0)] else [(2 * p, a_ctorFirst c, nI n, -1, 0), (2 * p + 1, a_ctorSecond c, nI n, -1, 0)] := by
        unfold tr_kids; rw [if_neg k3, if_neg k4, if_pos ⟨k1, z⟩, c2, ec]
      have e2 : (2 : Int32) * nI p = nI (2 * p) := pk_mul 2 p
      have e21 : (2 : Int32) * nI p + 1 = nI (2 * p + 1) := by rw [e2, nI_1]
      rw [ec]
      refine br_c (fun s => ?_) (fun s => ⟨wc, ?_⟩)
      · unfold wX_pushHolesOf_98
        rw [ec]
        refine ⟨wc, br_c (fun f => none ?_) (fun f => ⟨wc, ?_⟩)⟩
        · rw [ek, if_pos f]
        · rw [if_neg f, if_pos s] at ek
          rw [ek] at hp h16
          have h16' : hs.length + 1 ≤ 16 := h16
          exact xw_push2 (2 * p, a_ctorFirst c, nI n, -1, 0) e2 rfl rfl rfl hl (by omega) H (fun HP HY HO HS H1 => hp HP HY HO HS H1)
      · have f : ¬ a_ctorFirst c = -1 := fun f => s (hc12 c c1 f)
        rw [if_neg f, if_neg s] at ek
        rw [ek] at hp h16
        have h16' : hs.length + 2 ≤ 16 := h16
        refine xw_push2 (2 * p + 1, a_ctorSecond c, nI n, -1, 0) e21 rfl rfl rfl hl (by omega) H (fun HP HY HO HS H1 => ?_)
        unfold wX_pushHolesOf_98
        rw [ec]
        refine ⟨wc, br_f f ⟨wc, ?_⟩⟩
        exact xw_push2 (2 * p, a_ctorFirst c, nI n, -1, 0) e2 rfl rfl rfl rfl (by simp; omega) H1 (fun HP HY HO HS H2 => hp HP HY HO HS H2)
  · unfold tr_kids; rw [if_neg k3, if_neg k4, if_neg (fun y => k1 y.1)]
theorem xw_litPresent {post : Int32 → Prop} {p : Nat} {x : Int32} (hn : nc ≤ 48) (h : post (lc_b (lc_d (xl_lit a_nodeKind a_nodeArg a_nodePos nc p x)))) : wpX_literalPresent post (nI tt, nI rl, nI rt, ph, nI cc, nI rc, ro, nI nc, nI hlc, nI clc, nI sc, solM, livM, misF, nI qt, lr, a_ctorType, a_ctorFirst, a_ctorSecond, a_typeSize, a_typeCtors, a_rowFirst, a_rowSize, a_guardKind, a_guardA, a_guardB, a_clauseFirst, a_nodeKind, a_nodeArg, a_nodePos, a_nodeRow, a_altOf, a_altSide, a_nodeNew, a_after, a_holePos, a_holeType, a_holeOwner, a_holeSide, a_clauseRow, a_clauseNodes, a_clauseTests, a_testHead, a_clauseBind, a_litCount, a_lits, a_freshInt, a_stateMask, a_stateOpen, a_statePos, a_stateNext, a_child, a_bucketHead, a_pin, a_marked, a_queue, a_val, a_valType, a_bound) (nI p) x := by
  have loop : ∀ d i, i + d = nc → (∀ n', n' < i → ¬ (a_nodeKind n' = 2 ∧ a_nodePos n' = nI p ∧ a_nodeArg n' = x)) → wX_literalPresent_2 post (nI p) x (nI tt) (nI rl) (nI rt) ph (nI cc) (nI rc) ro (nI nc) (nI hlc) (nI clc) (nI sc) solM livM misF (nI qt) lr a_ctorType a_ctorFirst a_ctorSecond a_typeSize a_typeCtors a_rowFirst a_rowSize a_guardKind a_guardA a_guardB a_clauseFirst a_nodeKind a_nodeArg a_nodePos a_nodeRow a_altOf a_altSide a_nodeNew a_after a_holePos a_holeType a_holeOwner a_holeSide a_clauseRow a_clauseNodes a_clauseTests a_testHead a_clauseBind a_litCount a_lits a_freshInt a_stateMask a_stateOpen a_statePos a_stateNext a_child a_bucketHead a_pin a_marked a_queue a_val a_valType a_bound (d + 1) (nI i) := by
    intro d
    induction d with
    | zero =>
      intro i hi h1
      have : i = nc := by omega
      subst this
      have hm : ¬ xl_lit a_nodeKind a_nodeArg a_nodePos i p x := fun ⟨n', a, b⟩ => h1 n' a b
      rw [lc_df.mpr hm] at h
      exact br_t (nI_le (by omega) (by omega)) h
    | succ d ih =>
      intro i hi h1
      have e : (nI i).toNatClampNeg = i := nI_clamp (by omega)
      have w : vp_in (nI i) 48 := vp_in_nI (by omega) (by omega)
      have go : ¬ (a_nodeKind i = 2 ∧ a_nodePos i = nI p ∧ a_nodeArg i = x) → wX_literalPresent_2 post (nI p) x (nI tt) (nI rl) (nI rt) ph (nI cc) (nI rc) ro (nI nc) (nI hlc) (nI clc) (nI sc) solM livM misF (nI qt) lr a_ctorType a_ctorFirst a_ctorSecond a_typeSize a_typeCtors a_rowFirst a_rowSize a_guardKind a_guardA a_guardB a_clauseFirst a_nodeKind a_nodeArg a_nodePos a_nodeRow a_altOf a_altSide a_nodeNew a_after a_holePos a_holeType a_holeOwner a_holeSide a_clauseRow a_clauseNodes a_clauseTests a_testHead a_clauseBind a_litCount a_lits a_freshInt a_stateMask a_stateOpen a_statePos a_stateNext a_child a_bucketHead a_pin a_marked a_queue a_val a_valType a_bound (d + 1) (nI (i + 1)) := fun z => ih (i + 1) (by omega) (lt_s h1 z)
      refine br_f (nI_ge (by omega) (by omega)) ⟨w, ?_⟩
      rw [e]
      refine br_c (fun a => ⟨w, br_c (fun b => ⟨w, br_c (fun c => ?_) (fun c => nm_r (nI_1 i) (go (fun z => c z.2.2)))⟩) (fun b => nm_r (nI_1 i) (go (fun z => b z.2.1)))⟩) (fun a => nm_r (nI_1 i) (go (fun z => a z.1)))
      have hm : xl_lit a_nodeKind a_nodeArg a_nodePos nc p x := ⟨i, by omega, a, b, c⟩
      rw [lc_dt.mpr hm] at h; exact h
  exact ⟨nc + 1, loop nc 0 (by omega) (fun n' hn' => by omega)⟩
theorem xl_cntle {NW P : Nat → Int32} {p : Nat} : ∀ n, xl_cnt NW P p n ≤ n := by
  intro n
  induction n with
  | zero => exact Nat.le_refl _
  | succ n ih => rw [xl_cnt]; split <;> omega
theorem xw_litsAt {post : Int32 → Prop} {p : Nat} (hn : nc ≤ 48) (h : post (nI (xl_cnt a_nodeNew a_nodePos p nc))) : wpX_literalsAt post (nI tt, nI rl, nI rt, ph, nI cc, nI rc, ro, nI nc, nI hlc, nI clc, nI sc, solM, livM, misF, nI qt, lr, a_ctorType, a_ctorFirst, a_ctorSecond, a_typeSize, a_typeCtors, a_rowFirst, a_rowSize, a_guardKind, a_guardA, a_guardB, a_clauseFirst, a_nodeKind, a_nodeArg, a_nodePos, a_nodeRow, a_altOf, a_altSide, a_nodeNew, a_after, a_holePos, a_holeType, a_holeOwner, a_holeSide, a_clauseRow, a_clauseNodes, a_clauseTests, a_testHead, a_clauseBind, a_litCount, a_lits, a_freshInt, a_stateMask, a_stateOpen, a_statePos, a_stateNext, a_child, a_bucketHead, a_pin, a_marked, a_queue, a_val, a_valType, a_bound) (nI p) := by
  have loop : ∀ d i, i + d = nc → wX_literalsAt_4 post (nI p) (nI tt) (nI rl) (nI rt) ph (nI cc) (nI rc) ro (nI nc) (nI hlc) (nI clc) (nI sc) solM livM misF (nI qt) lr a_ctorType a_ctorFirst a_ctorSecond a_typeSize a_typeCtors a_rowFirst a_rowSize a_guardKind a_guardA a_guardB a_clauseFirst a_nodeKind a_nodeArg a_nodePos a_nodeRow a_altOf a_altSide a_nodeNew a_after a_holePos a_holeType a_holeOwner a_holeSide a_clauseRow a_clauseNodes a_clauseTests a_testHead a_clauseBind a_litCount a_lits a_freshInt a_stateMask a_stateOpen a_statePos a_stateNext a_child a_bucketHead a_pin a_marked a_queue a_val a_valType a_bound (d + 1) (nI (xl_cnt a_nodeNew a_nodePos p i)) (nI i) := by
    intro d
    induction d with
    | zero =>
      intro i hi
      have : i = nc := by omega
      subst this
      exact br_t (nI_le (by omega) (by omega)) h
    | succ d ih =>
      intro i hi
      have e : (nI i).toNatClampNeg = i := nI_clamp (by omega)
      have w : vp_in (nI i) 48 := vp_in_nI (by omega) (by omega)
      have nx := ih (i + 1) (by omega)
      rw [xl_cnt] at nx
      refine br_f (nI_ge (by omega) (by omega)) ⟨w, ?_⟩
      rw [e]
      refine br_c (fun a => nm_r (nI_1 i) ?_) (fun a => ⟨w, br_c (fun b => nm_r (e' := nI (xl_cnt a_nodeNew a_nodePos p i + 1)) (nI_1 _) (nm_r (nI_1 i) ?_)) (fun b => nm_r (nI_1 i) ?_)⟩)
      · rw [if_neg (fun z => z.1 a)] at nx; exact nx
      · rw [if_pos ⟨a, b⟩] at nx; exact nx
      · rw [if_neg (fun z => b z.2)] at nx; exact nx
  exact ⟨nc + 1, loop nc 0 (by omega)⟩
theorem yw_literals {post : Int32 → Prop} {p : Nat} (hn : nc ≤ 48) (hnew : xl_new a_nodeKind a_nodeArg a_nodePos a_nodeNew nc) (h : post (nI (xl_cnt a_nodeNew a_nodePos p nc))) : wpY_literals post (nI tt, nI rl, nI rt, ph, nI cc, nI nc, nI rc, nI hlc, lr, ro, a_ctorType, a_ctorFirst, a_ctorSecond, a_nodeKind, a_nodeArg, a_nodePos, a_nodeRow, b_nUp, a_rowFirst, b_rowSize, a_guardKind, a_guardA, a_guardB, b_holePos, b_holeType, b_holeUp, b_head, b_headType, b_binds, b_look, b_lookType, b_bound, b_hit, b_part) (nI p) := by
  have loop : ∀ d i, i + d = nc → wY_literals_4 post (nI p) (nI tt) (nI rl) (nI rt) ph (nI cc) (nI nc) (nI rc) (nI hlc) lr ro a_ctorType a_ctorFirst a_ctorSecond a_nodeKind a_nodeArg a_nodePos a_nodeRow b_nUp a_rowFirst b_rowSize a_guardKind a_guardA a_guardB b_holePos b_holeType b_holeUp b_head b_headType b_binds b_look b_lookType b_bound b_hit b_part (d + 1) (nI (xl_cnt a_nodeNew a_nodePos p i)) (nI i) := by
    intro d
    induction d with
    | zero =>
      intro i hi
      have : i = nc := by omega
      subst this
      exact br_t (nI_le (by omega) (by omega)) h
    | succ d ih =>
      intro i hi
      have e : (nI i).toNatClampNeg = i := nI_clamp (by omega)
      have w : vp_in (nI i) 48 := vp_in_nI (by omega) (by omega)
      have nx := ih (i + 1) (by omega)
      rw [xl_cnt] at nx
      have hni := hnew i (by omega)
      have lit : a_nodePos i = nI p → (xl_lit a_nodeKind a_nodeArg a_nodePos i p (a_nodeArg i) ↔ ∃ n', n' < i ∧ a_nodeKind n' = 2 ∧ a_nodePos n' = a_nodePos i ∧ a_nodeArg n' = a_nodeArg i) := by
        intro ep; rw [ep]; exact Iff.rfl
      refine br_f (nI_ge (by omega) (by omega)) ⟨w, ?_⟩
      rw [e]
      refine br_c (fun a => ⟨w, br_c (fun b => ⟨w, yw_isLiteral (by omega) (lc_br (fun hf => nm_r (e' := nI (xl_cnt a_nodeNew a_nodePos p i + 1)) (nI_1 _) (nm_r (nI_1 i) ?_)) (fun hy => nm_r (nI_1 i) ?_))⟩) (fun b => nm_r (nI_1 i) ?_)⟩) (fun a => nm_r (nI_1 i) ?_)
      · rw [if_pos ⟨hni.mpr ⟨a, fun z => lc_df.mp hf ((lit b).mpr z)⟩, b⟩] at nx; exact nx
      · rw [if_neg (fun z => (hni.mp z.1).2 ((lit b).mp (lc_dt.mp hy)))] at nx; exact nx
      · rw [if_neg (fun z => b z.2)] at nx; exact nx
      · rw [if_neg (fun z => a (hni.mp z.1).1)] at nx; exact nx
  exact ⟨nc + 1, loop nc 0 (by omega)⟩
end
end
section
section
variable {tt rl rt cc rc nc hlc clc sc qt : Nat} {ph ro misF lr : Int32} {solM livM : Int64} {a_ctorType a_ctorFirst a_ctorSecond a_typeSize a_typeCtors a_rowFirst a_rowSize a_guardKind a_guardA a_guardB a_clauseFirst a_nodeKind a_nodeArg a_nodePos a_nodeRow a_altOf a_altSide a_nodeNew a_after a_holePos a_holeType a_holeOwner a_holeSide a_clauseRow a_clauseTests a_testHead a_clauseBind a_litCount a_lits a_freshInt a_stateOpen a_statePos a_stateNext a_child a_bucketHead a_pin a_marked a_queue a_val a_valType a_bound : Nat → Int32} {a_clauseNodes a_stateMask : Nat → Int64} {b_nUp b_rowSize b_holePos b_holeType b_holeUp b_head b_headType b_binds b_look b_lookType b_bound b_hit b_part : Nat → Int32}
variable {k : Nat} {fr sz cf : Nat → Nat}
theorem rl_R_node {xK xA xP xR xU xO xS : Int32} {r : Nat} (h : rl_R rt cc a_ctorType a_ctorFirst a_ctorSecond a_nodeKind a_nodeArg a_nodePos a_nodeRow b_nUp a_altOf a_altSide a_rowFirst a_rowSize b_rowSize a_guardKind a_guardA a_guardB a_clauseFirst a_clauseRow a_clauseNodes a_clauseTests a_testHead a_clauseBind fr sz cf r) (hle : fr (r + 1) ≤ nc) (hnc : nc ≤ 48) : rl_R rt cc a_ctorType a_ctorFirst a_ctorSecond (upd a_nodeKind nc xK) (upd a_nodeArg nc xA) (upd a_nodePos nc xP) (upd a_nodeRow nc xR) (upd b_nUp nc xU) (upd a_altOf nc xO) (upd a_altSide nc xS) a_rowFirst a_rowSize b_rowSize a_guardKind a_guardA a_guardB a_clauseFirst a_clauseRow a_clauseNodes a_clauseTests a_testHead a_clauseBind fr sz cf r := by
  obtain ⟨h1, h2, h3, h4, h5, h6, h7, h8, h9, h10, h11, h12, h13⟩ := h
  refine ⟨h1, h2, h3, h4, h5, tr_congr _ _ _ _ h6 (fun n a b => ⟨pk_un (by omega), pk_un (by omega), pk_un (by omega), pk_un (by omega), pk_un (by omega), pk_un (by omega)⟩), fun n a b => by rw [pk_un (by omega)]; exact h7 n a b, h8, h9, h10, h11, h12, ?_⟩
  exact rf_congr (fun n a b => ⟨pk_un (by omega), pk_un (by omega), pk_un (by omega), pk_un (by omega)⟩) (fun c a b => ⟨rfl, rfl, fun _ _ => rfl, fun _ _ => rfl⟩) (fun n a b => tr_up _ _ _ h6 n a b) (by omega) (tr_pos h6) h13
theorem rl_putR {g : Nat} {ag nw : Int32} {hd : tr_H} {hs : List tr_H} {HP HY HO HS bP bY bU : Nat → Int32} (hT : rl_T tt rl rt cc ph a_ctorType a_ctorFirst a_ctorSecond a_typeSize a_typeCtors) (hN : rl_N rt cc rl rc nc clc a_ctorType a_ctorFirst a_ctorSecond a_nodeKind a_nodeArg a_nodePos a_nodeRow b_nUp a_altOf a_altSide a_nodeNew a_rowFirst a_rowSize b_rowSize a_guardKind a_guardA a_guardB a_clauseFirst a_clauseRow a_clauseNodes a_clauseTests a_testHead a_clauseBind fr sz cf) (hV : rl_V rt cc ph a_ctorType a_ctorFirst a_ctorSecond a_valType a_val b_headType b_head) (hB : ∀ v, v < 4 → a_bound v = b_binds v) (hph : ph = 1) (hro : ro = 1) (o2 : rc < rl) (o3 : a_rowFirst rc = nI (fr rc)) (o5 : ∀ n, fr rc ≤ n → n < nc → a_nodeRow n = nI rc)
    (o9 : tr_Op cc a_nodeKind a_nodeArg a_nodePos b_nUp a_altOf a_altSide a_ctorType a_ctorFirst a_ctorSecond (nc - fr rc) (fr rc) [(1, nI rt, -1, -1, 0)] (hd :: hs)) (o10 : tr_low (hd :: hs)) (g4 : g ≤ 4) (hg1 : g = 1 → ∃ c, c < cc ∧ ag = nI c ∧ a_ctorType c = hd.2.1) (hg2 : g = 2 → hd.2.1 = 0) (hg4 : g = 4 → ∃ v, v < 4 ∧ ag = nI v)
    (hnw : nw ≠ 0 ↔ g = 2 ∧ ¬ xl_lit a_nodeKind a_nodeArg a_nodePos nc hd.1 ag) (hlim : nw ≠ 0 → xl_cnt a_nodeNew a_nodePos hd.1 nc < xl_lim hd.1)
    (f16 : nc - fr rc + 1 + (hs.length + (tr_kids (upd a_nodeKind nc (nI g)) (upd a_nodeArg nc ag) a_ctorFirst a_ctorSecond nc hd.1 hd.2.1).length) ≤ 16) (f48 : nc + 1 + (hs.length + (tr_kids (upd a_nodeKind nc (nI g)) (upd a_nodeArg nc ag) a_ctorFirst a_ctorSecond nc hd.1 hd.2.1).length) ≤ 48) (hX : rl_HX HP HY HO HS (tr_kids (upd a_nodeKind nc (nI g)) (upd a_nodeArg nc ag) a_ctorFirst a_ctorSecond nc hd.1 hd.2.1 ++ hs)) (hYY : rl_HY bP bY bU (tr_kids (upd a_nodeKind nc (nI g)) (upd a_nodeArg nc ag) a_ctorFirst a_ctorSecond nc hd.1 hd.2.1 ++ hs)) :
    i_Rel (k + 4) (nI tt, nI rl, nI rt, ph, nI cc, nI rc, ro, nI (nc + 1), nI (tr_kids (upd a_nodeKind nc (nI g)) (upd a_nodeArg nc ag) a_ctorFirst a_ctorSecond nc hd.1 hd.2.1 ++ hs).length, nI clc, nI sc, solM, livM, misF, nI qt, lr, a_ctorType, a_ctorFirst, a_ctorSecond, a_typeSize, a_typeCtors, a_rowFirst, a_rowSize, a_guardKind, a_guardA, a_guardB, a_clauseFirst, (upd a_nodeKind nc (nI g)), (upd a_nodeArg nc ag), (upd a_nodePos nc (nI hd.1)), upd a_nodeRow nc (nI rc), upd a_altOf nc hd.2.2.2.1, upd a_altSide nc hd.2.2.2.2, upd a_nodeNew nc nw, a_after, HP, HY, HO, HS, a_clauseRow, a_clauseNodes, a_clauseTests, a_testHead, a_clauseBind, a_litCount, a_lits, a_freshInt, a_stateMask, a_stateOpen, a_statePos, a_stateNext, a_child, a_bucketHead, a_pin, a_marked, a_queue, a_val, a_valType, a_bound)
      (nI tt, nI rl, nI rt, ph, nI cc, nI (nc + 1), nI rc, nI (tr_kids (upd a_nodeKind nc (nI g)) (upd a_nodeArg nc ag) a_ctorFirst a_ctorSecond nc hd.1 hd.2.1 ++ hs).length, lr, ro, a_ctorType, a_ctorFirst, a_ctorSecond, (upd a_nodeKind nc (nI g)), (upd a_nodeArg nc ag), (upd a_nodePos nc (nI hd.1)), upd a_nodeRow nc (nI rc), upd b_nUp nc hd.2.2.1, a_rowFirst, upd b_rowSize rc (nI (nc + 1 - fr rc)), a_guardKind, a_guardA, a_guardB, bP, bY, bU, b_head, b_headType, b_binds, b_look, b_lookType, b_bound, b_hit, b_part) := by
  have hnc := hN.2.1
  have hfr := rl_frle hN rc (Nat.le_refl _)
  have hdl := o10 hd (List.mem_cons_self ..)
  have litk : ∀ p x, xl_lit (upd a_nodeKind nc (nI g)) (upd a_nodeArg nc ag) (upd a_nodePos nc (nI hd.1)) nc p x ↔ xl_lit a_nodeKind a_nodeArg a_nodePos nc p x := by
    intro p x
    constructor
    · rintro ⟨n, a, b, c, d⟩
      rw [pk_un (by omega)] at b c d
      exact ⟨n, a, b, c, d⟩
    · rintro ⟨n, a, b, c, d⟩
      exact ⟨n, a, by rw [pk_un (by omega)]; exact b, by rw [pk_un (by omega)]; exact c, by rw [pk_un (by omega)]; exact d⟩
  have gk : ∀ x : Nat, x ≤ 4 → (nI g = nI x ↔ g = x) := fun x hx => nI_eq (by omega) (by omega)
  have ck : ∀ q n, n ≤ nc → xl_cnt (upd a_nodeNew nc nw) (upd a_nodePos nc (nI hd.1)) q n = xl_cnt a_nodeNew a_nodePos q n := by
    intro q n
    induction n with
    | zero => intro _; rfl
    | succ n ih => intro hn; rw [xl_cnt, xl_cnt, ih (by omega), pk_un (by omega), pk_un (by omega)]
  have len : (tr_kids (upd a_nodeKind nc (nI g)) (upd a_nodeArg nc ag) a_ctorFirst a_ctorSecond nc hd.1 hd.2.1 ++ hs).length = hs.length + (tr_kids (upd a_nodeKind nc (nI g)) (upd a_nodeArg nc ag) a_ctorFirst a_ctorSecond nc hd.1 hd.2.1).length := by rw [List.length_append]; omega
  refine zz_in ⟨fr, sz, cf, hT, ⟨hN.1, by omega, hN.2.2.1, hN.2.2.2.1, fun r hr => ?_, by omega, hN.2.2.2.2.2.2.1, fun n hn => ?_, fun q q1 q7 => ?_, fun n hn => ?_⟩, Or.inr ⟨hro, o2, o3, ?_, fun n a b => ?_, by rw [len]; omega, by rw [len]; omega, tr_kids (upd a_nodeKind nc (nI g)) (upd a_nodeArg nc ag) a_ctorFirst a_ctorSecond nc hd.1 hd.2.1 ++ hs, rfl, ?_, ?_, (rl_H_split _).mpr ⟨hX, hYY⟩⟩, hV, hB, fun z => ?_, fun z => ?_, fun _ => hph⟩
  · exact rl_R_row (rl_R_node (hN.2.2.2.2.1 r hr) (rl_frle hN (r + 1) (by omega)) hnc) rfl rfl (pk_un (by omega)) rfl rfl rfl rfl
  · by_cases q : n = nc
    · subst q
      rw [pk_us, pk_us]
      rw [hnw]
      constructor
      · rintro ⟨a, b⟩
        refine ⟨by rw [a]; rfl, ?_⟩
        rintro ⟨n', c1, c2, c3, c4⟩
        rw [pk_un (by omega)] at c2
        rw [pk_un (by omega), pk_us] at c3 c4
        exact b ⟨n', c1, c2, c3, c4⟩
      · rintro ⟨a, b⟩
        refine ⟨(gk 2 (by omega)).mp a, ?_⟩
        rintro ⟨n', c1, c2, c3, c4⟩
        exact b ⟨n', c1, by rw [pk_un (by omega)]; exact c2, by rw [pk_un (by omega), pk_us]; exact c3, by rw [pk_un (by omega), pk_us]; exact c4⟩
    · have h8 := hN.2.2.2.2.2.2.2.1 n (by omega)
      rw [pk_un q, pk_un q, h8]
      constructor
      · rintro ⟨a, b⟩
        refine ⟨a, ?_⟩
        rintro ⟨n', c1, c2, c3, c4⟩
        rw [pk_un (by omega)] at c2
        rw [pk_un (by omega), pk_un q] at c3 c4
        exact b ⟨n', c1, c2, c3, c4⟩
      · rintro ⟨a, b⟩
        refine ⟨a, ?_⟩
        rintro ⟨n', c1, c2, c3, c4⟩
        exact b ⟨n', c1, by rw [pk_un (by omega)]; exact c2, by rw [pk_un (by omega), pk_un q]; exact c3, by rw [pk_un (by omega), pk_un q]; exact c4⟩
  · rw [xl_cnt, ck q nc (Nat.le_refl _), pk_us, pk_us]
    by_cases z : nw ≠ 0 ∧ nI hd.1 = nI q
    · rw [if_pos z]
      have := (nI_eq (by omega) (by omega)).mp z.2
      subst this
      exact hlim z.1
    · rw [if_neg z]; exact hN.2.2.2.2.2.2.2.2.1 q q1 q7
  · by_cases q : n = nc
    · subst q; rw [pk_us]; exact ⟨hd.1, hdl.1, hdl.2, rfl⟩
    · rw [pk_un q]; exact hN.2.2.2.2.2.2.2.2.2 n (by omega)
  · rw [pk_us]
  · by_cases q : n = nc
    · subst q; exact pk_us
    · rw [pk_un q]; exact o5 n a (by omega)
  · have o9' := tr_congr (K' := (upd a_nodeKind nc (nI g))) (A' := (upd a_nodeArg nc ag)) (P' := (upd a_nodePos nc (nI hd.1))) (U' := upd b_nUp nc hd.2.2.1) (O' := upd a_altOf nc hd.2.2.2.1) (S' := upd a_altSide nc hd.2.2.2.2) _ _ _ _ o9 (fun n a b => ⟨pk_un (by omega), pk_un (by omega), pk_un (by omega), pk_un (by omega), pk_un (by omega), pk_un (by omega)⟩)
    have hsn := tr_snoc _ _ _ o9' (by
      rw [show fr rc + (nc - fr rc) = nc by omega]
      refine ⟨pk_us, pk_us, pk_us, pk_us, ?_, fun z => ?_, fun z => ?_, fun z => ?_⟩
      · rw [pk_us]
        have : g = 0 ∨ g = 1 ∨ g = 2 ∨ g = 3 ∨ g = 4 := by omega
        rcases this with rfl | rfl | rfl | rfl | rfl
        · exact Or.inl rfl
        · exact Or.inr (Or.inl rfl)
        · exact Or.inr (Or.inr (Or.inl rfl))
        · exact Or.inr (Or.inr (Or.inr (Or.inl rfl)))
        · exact Or.inr (Or.inr (Or.inr (Or.inr rfl)))
      · rw [pk_us] at z ⊢; exact hg1 ((gk 1 (by omega)).mp z)
      · rw [pk_us] at z; exact hg2 ((gk 2 (by omega)).mp z)
      · rw [pk_us] at z ⊢; exact hg4 ((gk 4 (by omega)).mp z))
    rw [show fr rc + (nc - fr rc) = nc by omega, show nc - fr rc + 1 = nc + 1 - fr rc by omega] at hsn
    exact hsn
  · exact tr_lowapp (tr_kidlow hdl.1 hdl.2) (fun x hx => o10 x (List.mem_cons_of_mem _ hx))
  · rw [hph] at z; exact absurd z (by decide)
  · rw [hph] at z; exact absurd z (by decide)
/-- X adds the node -/
theorem xw_add121 {post : Int32 → SX → Prop} {p : Nat} {t bb : Int32} {hs : List tr_H} (hbb : vp_nar .boolean bb = bb) (hnc : nc < 48) (hcc : cc ≤ 12) (hc12 : ∀ c, c < cc → a_ctorFirst c = -1 → a_ctorSecond c = -1) (hk1 : a_nodeKind nc = 1 → ∃ c, c < cc ∧ a_nodeArg nc = nI c) (p7 : p ≤ 7) (hl : hlc = hs.length) (h16 : hs.length + (tr_kids a_nodeKind a_nodeArg a_ctorFirst a_ctorSecond nc p t).length ≤ 16) (H : rl_HX a_holePos a_holeType a_holeOwner a_holeSide hs)
    (hp : ∀ HP HY HO HS, rl_HX HP HY HO HS (tr_kids a_nodeKind a_nodeArg a_ctorFirst a_ctorSecond nc p t ++ hs) → post (nI nc) (nI tt, nI rl, nI rt, ph, nI cc, nI rc, ro, nI (nc + 1), nI (tr_kids a_nodeKind a_nodeArg a_ctorFirst a_ctorSecond nc p t ++ hs).length, nI clc, nI sc, solM, livM, misF, nI qt, lr, a_ctorType, a_ctorFirst, a_ctorSecond, a_typeSize, a_typeCtors, a_rowFirst, a_rowSize, a_guardKind, a_guardA, a_guardB, a_clauseFirst, a_nodeKind, a_nodeArg, a_nodePos, a_nodeRow, a_altOf, a_altSide, upd a_nodeNew nc bb, a_after, HP, HY, HO, HS, a_clauseRow, a_clauseNodes, a_clauseTests, a_testHead, a_clauseBind, a_litCount, a_lits, a_freshInt, a_stateMask, a_stateOpen, a_statePos, a_stateNext, a_child, a_bucketHead, a_pin, a_marked, a_queue, a_val, a_valType, a_bound)) : wX_addNode_121 post (nI p) t (nI nc) bb (nI nc) (nI tt) (nI rl) (nI rt) ph (nI cc) (nI rc) ro (nI nc) (nI hlc) (nI clc) (nI sc) solM livM misF (nI qt) lr a_ctorType a_ctorFirst a_ctorSecond a_typeSize a_typeCtors a_rowFirst a_rowSize a_guardKind a_guardA a_guardB a_clauseFirst a_nodeKind a_nodeArg a_nodePos a_nodeRow a_altOf a_altSide a_nodeNew a_after a_holePos a_holeType a_holeOwner a_holeSide a_clauseRow a_clauseNodes a_clauseTests a_testHead a_clauseBind a_litCount a_lits a_freshInt a_stateMask a_stateOpen a_statePos a_stateNext a_child a_bucketHead a_pin a_marked a_queue a_val a_valType a_bound := by
  have e : (nI nc).toNatClampNeg = nc := nI_clamp (by omega)
  refine ⟨vp_in_nI hnc (by omega), nm_r (e' := upd a_nodeNew nc bb) (by rw [e, hbb]) (nm_r (nI_1 nc) ?_)⟩
  exact xw_pushOf (nc := nc + 1) hnc hcc hc12 hk1 p7 hl h16 H hp
theorem xw_add44 {post : Int32 → SX → Prop} {g : Nat} {ag v2 nw : Int32} {hd : tr_H} {hs : List tr_H} (hnc : nc < 48) (hcc : cc ≤ 12) (hrc : rc < 8) (hc12 : ∀ c, c < cc → a_ctorFirst c = -1 → a_ctorSecond c = -1) (hl : hlc = hs.length) (h16 : hs.length + (tr_kids (upd a_nodeKind nc (nI g)) (upd a_nodeArg nc ag) a_ctorFirst a_ctorSecond nc hd.1 hd.2.1).length ≤ 16) (hl16 : hlc < 16) (h7 : hd.1 ≤ 7) (g4 : g ≤ 4) (hg1 : g = 1 → ∃ c, c < cc ∧ ag = nI c) (hag : g = 2 → ag = v2) (hnw : nw = lc_b (lc_d (g = 2 ∧ ¬ xl_lit a_nodeKind a_nodeArg a_nodePos nc hd.1 ag))) (H : rl_HX a_holePos a_holeType a_holeOwner a_holeSide (hd :: hs))
    (hp : ∀ HP HY HO HS, rl_HX HP HY HO HS (tr_kids (upd a_nodeKind nc (nI g)) (upd a_nodeArg nc ag) a_ctorFirst a_ctorSecond nc hd.1 hd.2.1 ++ hs) → post (nI nc) (nI tt, nI rl, nI rt, ph, nI cc, nI rc, ro, nI (nc + 1), nI (tr_kids (upd a_nodeKind nc (nI g)) (upd a_nodeArg nc ag) a_ctorFirst a_ctorSecond nc hd.1 hd.2.1 ++ hs).length, nI clc, nI sc, solM, livM, misF, nI qt, lr, a_ctorType, a_ctorFirst, a_ctorSecond, a_typeSize, a_typeCtors, a_rowFirst, a_rowSize, a_guardKind, a_guardA, a_guardB, a_clauseFirst, (upd a_nodeKind nc (nI g)), (upd a_nodeArg nc ag), (upd a_nodePos nc (nI hd.1)), upd a_nodeRow nc (nI rc), upd a_altOf nc hd.2.2.2.1, upd a_altSide nc hd.2.2.2.2, upd a_nodeNew nc nw, a_after, HP, HY, HO, HS, a_clauseRow, a_clauseNodes, a_clauseTests, a_testHead, a_clauseBind, a_litCount, a_lits, a_freshInt, a_stateMask, a_stateOpen, a_statePos, a_stateNext, a_child, a_bucketHead, a_pin, a_marked, a_queue, a_val, a_valType, a_bound)) : wX_addNode_44 post (nI g) v2 (nI hd.1) hd.2.1 (nI nc) ag (nI nc) (nI tt) (nI rl) (nI rt) ph (nI cc) (nI rc) ro (nI nc) (nI hlc) (nI clc) (nI sc) solM livM misF (nI qt) lr a_ctorType a_ctorFirst a_ctorSecond a_typeSize a_typeCtors a_rowFirst a_rowSize a_guardKind a_guardA a_guardB a_clauseFirst (upd a_nodeKind nc (nI g)) a_nodeArg a_nodePos a_nodeRow a_altOf a_altSide a_nodeNew a_after a_holePos a_holeType a_holeOwner a_holeSide a_clauseRow a_clauseNodes a_clauseTests a_testHead a_clauseBind a_litCount a_lits a_freshInt a_stateMask a_stateOpen a_statePos a_stateNext a_child a_bucketHead a_pin a_marked a_queue a_val a_valType a_bound := by
  have e : (nI nc).toNatClampNeg = nc := nI_clamp (by omega)
  have w : vp_in (nI nc) 48 := vp_in_nI hnc (by omega)
  have eh : (nI hlc).toNatClampNeg = hs.length := by rw [nI_clamp (by omega)]; exact hl
  have wh : vp_in (nI hlc) 16 := vp_in_nI hl16 (by omega)
  have gk : ∀ x : Nat, x ≤ 4 → (nI g = nI x ↔ g = x) := fun x hx => nI_eq (by omega) (by omega)
  have fin : ∀ bb, vp_nar .boolean bb = bb → bb = nw → wX_addNode_121 post (nI hd.1) hd.2.1 (nI nc) bb (nI nc) (nI tt) (nI rl) (nI rt) ph (nI cc) (nI rc) ro (nI nc) (nI hlc) (nI clc) (nI sc) solM livM misF (nI qt) lr a_ctorType a_ctorFirst a_ctorSecond a_typeSize a_typeCtors a_rowFirst a_rowSize a_guardKind a_guardA a_guardB a_clauseFirst (upd a_nodeKind nc (nI g)) (upd a_nodeArg nc ag) (upd a_nodePos nc (nI hd.1)) (upd a_nodeRow nc (nI rc)) (upd a_altOf nc hd.2.2.2.1) (upd a_altSide nc hd.2.2.2.2) a_nodeNew a_after a_holePos a_holeType a_holeOwner a_holeSide a_clauseRow a_clauseNodes a_clauseTests a_testHead a_clauseBind a_litCount a_lits a_freshInt a_stateMask a_stateOpen a_statePos a_stateNext a_child a_bucketHead a_pin a_marked a_queue a_val a_valType a_bound := by
    intro bb hbb ebb
    subst ebb
    exact xw_add121 hbb hnc hcc hc12 (by rw [pk_us, pk_us]; exact fun z => hg1 ((gk 1 (by omega)).mp z)) h7 hl h16 H.2.2.2.2 hp
  refine ⟨w, nm_r (e' := (upd a_nodeArg nc ag)) (by rw [e]) ⟨w, nm_r (e' := (upd a_nodePos nc (nI hd.1))) (by rw [e]) ⟨w, nm_r (e' := upd a_nodeRow nc (nI rc)) (by rw [e]) ⟨wh, w, nm_r (e' := upd a_altOf nc hd.2.2.2.1) (by rw [e, eh, H.2.2.1]) ⟨wh, w, nm_r (e' := upd a_altSide nc hd.2.2.2.2) (by rw [e, eh, H.2.2.2.1]) ?_⟩⟩⟩⟩⟩
  refine br_c (fun z => ?_) (fun z => ?_)
  · have z2 : g = 2 := (gk 2 (by omega)).mp z
    have ev := hag z2
    have li : xl_lit (upd a_nodeKind nc (nI g)) (upd a_nodeArg nc ag) (upd a_nodePos nc (nI hd.1)) nc hd.1 v2 ↔ xl_lit a_nodeKind a_nodeArg a_nodePos nc hd.1 ag := by
      rw [ev]
      constructor
      · rintro ⟨n, a, b, c, d⟩
        rw [pk_un (by omega)] at b c d
        exact ⟨n, a, b, c, d⟩
      · rintro ⟨n, a, b, c, d⟩
        exact ⟨n, a, by rw [pk_un (by omega)]; exact b, by rw [pk_un (by omega)]; exact c, by rw [pk_un (by omega)]; exact d⟩
    refine xw_litPresent (by omega) (lc_br (fun q => ?_) (fun q => ?_))
    · refine fin 1 rfl ?_
      rw [hnw, lc_dt.mpr ⟨z2, fun y => lc_df.mp q (li.mpr y)⟩]; rfl
    · refine fin 0 rfl ?_
      rw [hnw, lc_df.mpr (fun y => y.2 (li.mp (lc_dt.mp q)))]; rfl
  · refine fin 0 rfl ?_
    rw [hnw, lc_df.mpr (fun y => z ((gk 2 (by omega)).mpr y.1))]; rfl
theorem xw_addNode {post : Int32 → SX → Prop} {g : Nat} {ag v2 nw : Int32} {hd : tr_H} {hs : List tr_H} (hnc : nc < 48) (hcc : cc ≤ 12) (hrc : rc < 8) (hc12 : ∀ c, c < cc → a_ctorFirst c = -1 → a_ctorSecond c = -1) (hl : hlc = hs.length + 1) (h16 : hs.length + (tr_kids (upd a_nodeKind nc (nI g)) (upd a_nodeArg nc ag) a_ctorFirst a_ctorSecond nc hd.1 hd.2.1).length ≤ 16) (hl16 : hlc ≤ 16) (h7 : hd.1 ≤ 7) (g4 : g ≤ 4) (hg1 : g = 1 → ∃ c, c < cc ∧ ag = nI c) (hag : ag = if g = 0 ∨ g = 3 then 0 else v2) (hnw : nw = lc_b (lc_d (g = 2 ∧ ¬ xl_lit a_nodeKind a_nodeArg a_nodePos nc hd.1 ag))) (H : rl_HX a_holePos a_holeType a_holeOwner a_holeSide (hd :: hs))
    (hp : ∀ HP HY HO HS, rl_HX HP HY HO HS (tr_kids (upd a_nodeKind nc (nI g)) (upd a_nodeArg nc ag) a_ctorFirst a_ctorSecond nc hd.1 hd.2.1 ++ hs) → post (nI nc) (nI tt, nI rl, nI rt, ph, nI cc, nI rc, ro, nI (nc + 1), nI (tr_kids (upd a_nodeKind nc (nI g)) (upd a_nodeArg nc ag) a_ctorFirst a_ctorSecond nc hd.1 hd.2.1 ++ hs).length, nI clc, nI sc, solM, livM, misF, nI qt, lr, a_ctorType, a_ctorFirst, a_ctorSecond, a_typeSize, a_typeCtors, a_rowFirst, a_rowSize, a_guardKind, a_guardA, a_guardB, a_clauseFirst, (upd a_nodeKind nc (nI g)), (upd a_nodeArg nc ag), (upd a_nodePos nc (nI hd.1)), upd a_nodeRow nc (nI rc), upd a_altOf nc hd.2.2.2.1, upd a_altSide nc hd.2.2.2.2, upd a_nodeNew nc nw, a_after, HP, HY, HO, HS, a_clauseRow, a_clauseNodes, a_clauseTests, a_testHead, a_clauseBind, a_litCount, a_lits, a_freshInt, a_stateMask, a_stateOpen, a_statePos, a_stateNext, a_child, a_bucketHead, a_pin, a_marked, a_queue, a_val, a_valType, a_bound)) : wpX_addNode post (nI tt, nI rl, nI rt, ph, nI cc, nI rc, ro, nI nc, nI hlc, nI clc, nI sc, solM, livM, misF, nI qt, lr, a_ctorType, a_ctorFirst, a_ctorSecond, a_typeSize, a_typeCtors, a_rowFirst, a_rowSize, a_guardKind, a_guardA, a_guardB, a_clauseFirst, a_nodeKind, a_nodeArg, a_nodePos, a_nodeRow, a_altOf, a_altSide, a_nodeNew, a_after, a_holePos, a_holeType, a_holeOwner, a_holeSide, a_clauseRow, a_clauseNodes, a_clauseTests, a_testHead, a_clauseBind, a_litCount, a_lits, a_freshInt, a_stateMask, a_stateOpen, a_statePos, a_stateNext, a_child, a_bucketHead, a_pin, a_marked, a_queue, a_val, a_valType, a_bound) (nI g) v2 (nI hd.1) hd.2.1 := by
  have e : (nI nc).toNatClampNeg = nc := nI_clamp (by omega)
  have gk : ∀ x : Nat, x ≤ 4 → (nI g = nI x ↔ g = x) := fun x hx => nI_eq (by omega) (by omega)
  have hag2 : g = 2 → ag = v2 := fun z => by rw [hag, if_neg (by omega)]
  refine nm_r (e' := nI hs.length) (by rw [hl]; exact pk_sub (b := 1) (by omega)) ⟨vp_in_nI hnc (by omega), nm_r (e' := (upd a_nodeKind nc (nI g))) (by rw [e]) ?_⟩
  have fin := xw_add44 (post := post) (v2 := v2) (hlc := hs.length) hnc hcc hrc hc12 rfl h16 (by omega) h7 g4 hg1 hag2 hnw H hp
  refine br_c (fun z => ?_) (fun z => br_c (fun y => ?_) (fun y => ?_))
  · have : ag = 0 := by rw [hag, if_pos (Or.inl ((gk 0 (by omega)).mp z))]
    subst this; exact fin
  · have : ag = 0 := by rw [hag, if_pos (Or.inr ((gk 3 (by omega)).mp y))]
    subst this; exact fin
  · have : ag = v2 := by
      rw [hag, if_neg]
      rintro (a | a)
      · exact z ((gk 0 (by omega)).mpr a)
      · exact y ((gk 3 (by omega)).mpr a)
    subst this; exact fin
end
end
section
/-- how many holes a node makes -/
def pm_m (F1 F2 : Nat → Int32) (g : Nat) (v2 : Int32) (p : Nat) : Nat :=
  if g = 3 then 2 else if g = 4 then 1 else if g = 1 ∧ p ≤ 3 then (if F1 v2.toNatClampNeg = -1 then 0 else if F2 v2.toNatClampNeg = -1 then 1 else 2) else 0
section
variable {tt rl rt cc rc nc hlc clc sc qt : Nat} {ph ro misF lr : Int32} {solM livM : Int64} {a_ctorType a_ctorFirst a_ctorSecond a_typeSize a_typeCtors a_rowFirst a_rowSize a_guardKind a_guardA a_guardB a_clauseFirst a_nodeKind a_nodeArg a_nodePos a_nodeRow a_altOf a_altSide a_nodeNew a_after a_holePos a_holeType a_holeOwner a_holeSide a_clauseRow a_clauseTests a_testHead a_clauseBind a_litCount a_lits a_freshInt a_stateOpen a_statePos a_stateNext a_child a_bucketHead a_pin a_marked a_queue a_val a_valType a_bound : Nat → Int32} {a_clauseNodes a_stateMask : Nat → Int64} {b_nUp b_rowSize b_holePos b_holeType b_holeUp b_head b_headType b_binds b_look b_lookType b_bound b_hit b_part : Nat → Int32}
variable {k : Nat} {fr sz cf : Nat → Nat}
theorem pm_kk {g p : Nat} {t ag v2 : Int32} (g4 : g ≤ 4) (h1 : g = 1 → ag = v2) : (tr_kids (upd a_nodeKind nc (nI g)) (upd a_nodeArg nc ag) a_ctorFirst a_ctorSecond nc p t).length = pm_m a_ctorFirst a_ctorSecond g v2 p := by
  unfold tr_kids pm_m
  rw [pk_us, pk_us]
  have gk0 : nI g = (0 : Int32) ↔ g = 0 := nI_eq (b := 0) (by omega) (by omega)
  have gk1 : nI g = (1 : Int32) ↔ g = 1 := nI_eq (b := 1) (by omega) (by omega)
  have gk3 : nI g = (3 : Int32) ↔ g = 3 := nI_eq (b := 3) (by omega) (by omega)
  have gk4 : nI g = (4 : Int32) ↔ g = 4 := nI_eq (b := 4) (by omega) (by omega)
  by_cases a : g = 3
  · rw [if_pos (gk3.mpr a), if_pos a]; rfl
  · rw [if_neg (fun z => a (gk3.mp z)), if_neg a]
    by_cases b : g = 4
    · rw [if_pos (gk4.mpr b), if_pos b]; rfl
    · rw [if_neg (fun z => b (gk4.mp z)), if_neg b]
      by_cases c : g = 1 ∧ p ≤ 3
      · rw [if_pos ⟨gk1.mpr c.1, c.2⟩, if_pos c, h1 c.1]
        split
        · rfl
        · split <;> rfl
      · rw [if_neg (fun z => c ⟨gk1.mp z.1, z.2⟩), if_neg c]; rfl
theorem yw_put_s0 {post : Int32 → SY → Prop} {g : Nat} {v2 t : Int32} {p i m L n : Nat} (g1 : g ≠ 1) (g4 : g ≤ 4) (hi : i < m) (hL : L + m ≤ 16)
    (h : wY_put_363 post (nI g) v2 (nI p) t (nI m) (nI (L + m)) (nI tt) (nI rl) (nI rt) ph (nI cc) (nI nc) (nI rc) (nI hlc) lr ro n (nI (i + 1)) a_ctorType a_ctorFirst a_ctorSecond a_nodeKind a_nodeArg a_nodePos a_nodeRow b_nUp a_rowFirst b_rowSize a_guardKind a_guardA a_guardB (upd b_holePos (L + m - 1 - i) (nI p)) (upd b_holeType (L + m - 1 - i) t) (upd b_holeUp (L + m - 1 - i) (nI nc)) b_head b_headType b_binds b_look b_lookType b_bound b_hit b_part) : wY_put_363 post (nI g) v2 (nI p) t (nI m) (nI (L + m)) (nI tt) (nI rl) (nI rt) ph (nI cc) (nI nc) (nI rc) (nI hlc) lr ro (n + 1) (nI i) a_ctorType a_ctorFirst a_ctorSecond a_nodeKind a_nodeArg a_nodePos a_nodeRow b_nUp a_rowFirst b_rowSize a_guardKind a_guardA a_guardB b_holePos b_holeType b_holeUp b_head b_headType b_binds b_look b_lookType b_bound b_hit b_part := by
  have ez : nI (L + m) - 1 - nI i = nI (L + m - 1 - i) := by
    rw [show nI (L + m) - 1 = nI (L + m - 1) from pk_sub (b := 1) (by omega)]; exact pk_sub (by omega)
  have e : (nI (L + m) - 1 - nI i).toNatClampNeg = L + m - 1 - i := by rw [ez]; exact nI_clamp (by omega)
  have w : vp_in (nI (L + m) - 1 - nI i) 16 := by rw [ez]; exact vp_in_nI (by omega) (by omega)
  have gn : ¬ nI g = 1 := fun z => g1 ((nI_eq (b := 1) (by omega) (by omega)).mp z)
  exact br_f (nI_ge hi (by omega)) (br_f gn ⟨w, nm_r (e' := upd b_holePos (L + m - 1 - i) (nI p)) (by rw [e]) (br_f gn ⟨w, nm_r (e' := upd b_holeType (L + m - 1 - i) t) (by rw [e]) ⟨w, nm_r (e' := upd b_holeUp (L + m - 1 - i) (nI nc)) (by rw [e]) (nm_r (nI_1 i) h)⟩⟩)⟩)
theorem yw_put_s1 {post : Int32 → SY → Prop} {t T : Int32} {c p i m L n : Nat} (hc : c < 12) (p7 : p ≤ 7) (hi : i < m) (hL : L + m ≤ 16) (hT : T = if i = 0 then a_ctorFirst c else a_ctorSecond c)
    (h : wY_put_363 post (nI 1) (nI c) (nI p) t (nI m) (nI (L + m)) (nI tt) (nI rl) (nI rt) ph (nI cc) (nI nc) (nI rc) (nI hlc) lr ro n (nI (i + 1)) a_ctorType a_ctorFirst a_ctorSecond a_nodeKind a_nodeArg a_nodePos a_nodeRow b_nUp a_rowFirst b_rowSize a_guardKind a_guardA a_guardB (upd b_holePos (L + m - 1 - i) (nI (2 * p + i))) (upd b_holeType (L + m - 1 - i) T) (upd b_holeUp (L + m - 1 - i) (nI nc)) b_head b_headType b_binds b_look b_lookType b_bound b_hit b_part) : wY_put_363 post (nI 1) (nI c) (nI p) t (nI m) (nI (L + m)) (nI tt) (nI rl) (nI rt) ph (nI cc) (nI nc) (nI rc) (nI hlc) lr ro (n + 1) (nI i) a_ctorType a_ctorFirst a_ctorSecond a_nodeKind a_nodeArg a_nodePos a_nodeRow b_nUp a_rowFirst b_rowSize a_guardKind a_guardA a_guardB b_holePos b_holeType b_holeUp b_head b_headType b_binds b_look b_lookType b_bound b_hit b_part := by
  have ez : nI (L + m) - 1 - nI i = nI (L + m - 1 - i) := by
    rw [show nI (L + m) - 1 = nI (L + m - 1) from pk_sub (b := 1) (by omega)]; exact pk_sub (by omega)
  have e : (nI (L + m) - 1 - nI i).toNatClampNeg = L + m - 1 - i := by rw [ez]; exact nI_clamp (by omega)
  have w : vp_in (nI (L + m) - 1 - nI i) 16 := by rw [ez]; exact vp_in_nI (by omega) (by omega)
  have ec : (nI c).toNatClampNeg = c := nI_clamp (by omega)
  have wc : vp_in (nI c) 12 := vp_in_nI (by omega) (by omega)
  have e2 : (2 : Int32) * nI p + nI i = nI (2 * p + i) := by rw [show (2 : Int32) * nI p = nI (2 * p) from pk_mul 2 p]; exact nI_add _ _
  refine br_f (nI_ge hi (by omega)) (br_t rfl ⟨w, nm_r (e' := upd b_holePos (L + m - 1 - i) (nI (2 * p + i))) (by rw [e, e2]) (br_t rfl (pk_eq i 0 (fun z => ⟨wc, w, nm_r (e' := upd b_holeType (L + m - 1 - i) T) (by rw [e, ec, hT, if_pos z]) ⟨w, nm_r (e' := upd b_holeUp (L + m - 1 - i) (nI nc)) (by rw [e]) (nm_r (nI_1 i) h)⟩⟩) (fun z => ⟨wc, w, nm_r (e' := upd b_holeType (L + m - 1 - i) T) (by rw [e, ec, hT, if_neg z]) ⟨w, nm_r (e' := upd b_holeUp (L + m - 1 - i) (nI nc)) (by rw [e]) (nm_r (nI_1 i) h)⟩⟩)))⟩)
theorem yw_put_end {post : Int32 → SY → Prop} {x1 v2 x3 t : Int32} {m n s L : Nat} (hm : m < 100) (hrc : rc < 8) (hs : b_rowSize rc = nI s) (h : post (nI nc) (nI tt, nI rl, nI rt, ph, nI cc, nI (nc + 1), nI rc, nI L, lr, ro, a_ctorType, a_ctorFirst, a_ctorSecond, a_nodeKind, a_nodeArg, a_nodePos, a_nodeRow, b_nUp, a_rowFirst, upd b_rowSize rc (nI (s + 1)), a_guardKind, a_guardA, a_guardB, b_holePos, b_holeType, b_holeUp, b_head, b_headType, b_binds, b_look, b_lookType, b_bound, b_hit, b_part)) : wY_put_363 post x1 v2 x3 t (nI m) (nI L) (nI tt) (nI rl) (nI rt) ph (nI cc) (nI nc) (nI rc) (nI hlc) lr ro (n + 1) (nI m) a_ctorType a_ctorFirst a_ctorSecond a_nodeKind a_nodeArg a_nodePos a_nodeRow b_nUp a_rowFirst b_rowSize a_guardKind a_guardA a_guardB b_holePos b_holeType b_holeUp b_head b_headType b_binds b_look b_lookType b_bound b_hit b_part := by
  have e : (nI rc).toNatClampNeg = rc := nI_clamp (by omega)
  have w : vp_in (nI rc) 8 := vp_in_nI (by omega) (by omega)
  exact br_t (nI_le (Nat.le_refl _) (by omega)) ⟨w, w, nm_r (e' := upd b_rowSize rc (nI (s + 1))) (by rw [e, hs, nI_1]) (nm_r (nI_1 nc) h)⟩
/-- Y's loop -/
theorem yw_put_lp {post : Int32 → SY → Prop} {K0 A0 : Nat → Int32} {g s : Nat} {v2 ag : Int32} {hd : tr_H} {hs : List tr_H} (g4 : g ≤ 4) (hcc : cc ≤ 12) (h7 : hd.1 ≤ 7) (hrc : rc < 8) (hag : g = 1 → ag = v2) (hg1 : g = 1 → ∃ c, c < cc ∧ v2 = nI c) (h16 : hs.length + (tr_kids (upd K0 nc (nI g)) (upd A0 nc ag) a_ctorFirst a_ctorSecond nc hd.1 hd.2.1).length ≤ 16) (hsz : b_rowSize rc = nI s) (H : rl_HY b_holePos b_holeType b_holeUp hs)
    (h : ∀ bP bY bU, rl_HY bP bY bU (tr_kids (upd K0 nc (nI g)) (upd A0 nc ag) a_ctorFirst a_ctorSecond nc hd.1 hd.2.1 ++ hs) → post (nI nc) (nI tt, nI rl, nI rt, ph, nI cc, nI (nc + 1), nI rc, nI (tr_kids (upd K0 nc (nI g)) (upd A0 nc ag) a_ctorFirst a_ctorSecond nc hd.1 hd.2.1 ++ hs).length, lr, ro, a_ctorType, a_ctorFirst, a_ctorSecond, a_nodeKind, a_nodeArg, a_nodePos, a_nodeRow, b_nUp, a_rowFirst, upd b_rowSize rc (nI (s + 1)), a_guardKind, a_guardA, a_guardB, bP, bY, bU, b_head, b_headType, b_binds, b_look, b_lookType, b_bound, b_hit, b_part)) : ∃ n, wY_put_363 post (nI g) v2 (nI hd.1) hd.2.1 (nI (tr_kids (upd K0 nc (nI g)) (upd A0 nc ag) a_ctorFirst a_ctorSecond nc hd.1 hd.2.1).length) (nI (hs.length + (tr_kids (upd K0 nc (nI g)) (upd A0 nc ag) a_ctorFirst a_ctorSecond nc hd.1 hd.2.1).length)) (nI tt) (nI rl) (nI rt) ph (nI cc) (nI nc) (nI rc) (nI hlc) lr ro n (nI 0) a_ctorType a_ctorFirst a_ctorSecond a_nodeKind a_nodeArg a_nodePos a_nodeRow b_nUp a_rowFirst b_rowSize a_guardKind a_guardA a_guardB b_holePos b_holeType b_holeUp b_head b_headType b_binds b_look b_lookType b_bound b_hit b_part := by
  have gk0 : nI g = (0 : Int32) ↔ g = 0 := nI_eq (b := 0) (by omega) (by omega)
  have gk1 : nI g = (1 : Int32) ↔ g = 1 := nI_eq (b := 1) (by omega) (by omega)
  have gk3 : nI g = (3 : Int32) ↔ g = 3 := nI_eq (b := 3) (by omega) (by omega)
  have gk4 : nI g = (4 : Int32) ↔ g = 4 := nI_eq (b := 4) (by omega) (by omega)
  have none : tr_kids (upd K0 nc (nI g)) (upd A0 nc ag) a_ctorFirst a_ctorSecond nc hd.1 hd.2.1 = [] → ∃ n, wY_put_363 post (nI g) v2 (nI hd.1) hd.2.1 (nI (tr_kids (upd K0 nc (nI g)) (upd A0 nc ag) a_ctorFirst a_ctorSecond nc hd.1 hd.2.1).length) (nI (hs.length + (tr_kids (upd K0 nc (nI g)) (upd A0 nc ag) a_ctorFirst a_ctorSecond nc hd.1 hd.2.1).length)) (nI tt) (nI rl) (nI rt) ph (nI cc) (nI nc) (nI rc) (nI hlc) lr ro n (nI 0) a_ctorType a_ctorFirst a_ctorSecond a_nodeKind a_nodeArg a_nodePos a_nodeRow b_nUp a_rowFirst b_rowSize a_guardKind a_guardA a_guardB b_holePos b_holeType b_holeUp b_head b_headType b_binds b_look b_lookType b_bound b_hit b_part := by
    intro ek
    rw [ek] at h ⊢
    exact ⟨1, yw_put_end (m := 0) (by omega) hrc hsz (h _ _ _ H)⟩
  by_cases k3 : g = 3
  · have ek : tr_kids (upd K0 nc (nI g)) (upd A0 nc ag) a_ctorFirst a_ctorSecond nc hd.1 hd.2.1 = [(hd.1, hd.2.1, nI nc, nI nc, 0), (hd.1, hd.2.1, nI nc, nI nc, 1)] := by unfold tr_kids; rw [pk_us, if_pos (gk3.mpr k3)]
    rw [ek] at h h16 ⊢
    have h16' : hs.length + 2 ≤ 16 := h16
    refine ⟨3, yw_put_s0 (m := 2) (L := hs.length) (by omega) g4 (by omega) h16' (yw_put_s0 (m := 2) (L := hs.length) (i := 1) (by omega) g4 (by omega) h16' (yw_put_end (m := 2) (by omega) hrc hsz (h _ _ _ ?_)))⟩
    rw [show hs.length + 2 - 1 - 0 = hs.length + 1 by omega, show hs.length + 2 - 1 - 1 = hs.length by omega]
    exact ⟨(pk_un (by show hs.length + 1 ≠ hs.length; omega)).trans pk_us, (pk_un (by show hs.length + 1 ≠ hs.length; omega)).trans pk_us, (pk_un (by show hs.length + 1 ≠ hs.length; omega)).trans pk_us, pk_us, pk_us, pk_us, rl_HY_c hs H (fun j hj => ⟨(pk_un (by omega)).trans (pk_un (by omega)), (pk_un (by omega)).trans (pk_un (by omega)), (pk_un (by omega)).trans (pk_un (by omega))⟩)⟩
  by_cases k4 : g = 4
  · have ek : tr_kids (upd K0 nc (nI g)) (upd A0 nc ag) a_ctorFirst a_ctorSecond nc hd.1 hd.2.1 = [(hd.1, hd.2.1, nI nc, -1, 0)] := by unfold tr_kids; rw [pk_us, if_neg (fun z => k3 (gk3.mp z)), if_pos (gk4.mpr k4)]
    rw [ek] at h h16 ⊢
    have h16' : hs.length + 1 ≤ 16 := h16
    refine ⟨2, yw_put_s0 (m := 1) (L := hs.length) (by omega) g4 (by omega) h16' (yw_put_end (m := 1) (by omega) hrc hsz (h _ _ _ ?_))⟩
    rw [show hs.length + 1 - 1 - 0 = hs.length by omega]
    exact ⟨pk_us, pk_us, pk_us, rl_HY_c hs H (fun j hj => ⟨pk_un (by omega), pk_un (by omega), pk_un (by omega)⟩)⟩
  by_cases k1 : g = 1
  · obtain ⟨c, c1, rfl⟩ := hg1 k1
    have eg := hag k1
    subst eg k1
    have ec : (nI c).toNatClampNeg = c := nI_clamp (by omega)
    rcases Nat.lt_or_ge 3 hd.1 with z | z
    · refine none ?_
      unfold tr_kids
      rw [pk_us, if_neg (fun y => k3 (gk3.mp y)), if_neg (fun y => k4 (gk4.mp y)), if_neg (by omega)]
    · have ek : tr_kids (upd K0 nc (nI 1)) (upd A0 nc (nI c)) a_ctorFirst a_ctorSecond nc hd.1 hd.2.1 = if a_ctorFirst c = -1 then [] else if a_ctorSecond c = -1 then [(2 * hd.1, a_ctorFirst c, nI nc, -1, 0)] else [(2 * hd.1, a_ctorFirst c, nI nc, -1, 0), (2 * hd.1 + 1, a_ctorSecond c, nI nc, -1, 0)] := by
        unfold tr_kids
        rw [pk_us, if_neg (fun y => k3 (gk3.mp y)), if_neg (fun y => k4 (gk4.mp y)), if_pos ⟨rfl, z⟩, pk_us, ec]
      by_cases f1 : a_ctorFirst c = -1
      · exact none (by rw [ek, if_pos f1])
      by_cases f2 : a_ctorSecond c = -1
      · rw [if_neg f1, if_pos f2] at ek
        rw [ek] at h h16 ⊢
        have h16' : hs.length + 1 ≤ 16 := h16
        refine ⟨2, yw_put_s1 (m := 1) (L := hs.length) (by omega) h7 (by omega) h16' (by rw [if_pos rfl]) (yw_put_end (m := 1) (by omega) hrc hsz (h _ _ _ ?_))⟩
        rw [show hs.length + 1 - 1 - 0 = hs.length by omega]
        exact ⟨pk_us, pk_us, pk_us, rl_HY_c hs H (fun j hj => ⟨pk_un (by omega), pk_un (by omega), pk_un (by omega)⟩)⟩
      · rw [if_neg f1, if_neg f2] at ek
        rw [ek] at h h16 ⊢
        have h16' : hs.length + 2 ≤ 16 := h16
        refine ⟨3, yw_put_s1 (m := 2) (L := hs.length) (by omega) h7 (by omega) h16' (by rw [if_pos rfl]) (yw_put_s1 (m := 2) (L := hs.length) (i := 1) (by omega) h7 (by omega) h16' (by rw [if_neg (by omega)]) (yw_put_end (m := 2) (by omega) hrc hsz (h _ _ _ ?_)))⟩
        rw [show hs.length + 2 - 1 - 0 = hs.length + 1 by omega, show hs.length + 2 - 1 - 1 = hs.length by omega]
        exact ⟨(pk_un (by show hs.length + 1 ≠ hs.length; omega)).trans pk_us, (pk_un (by show hs.length + 1 ≠ hs.length; omega)).trans pk_us, (pk_un (by show hs.length + 1 ≠ hs.length; omega)).trans pk_us, pk_us, pk_us, pk_us, rl_HY_c hs H (fun j hj => ⟨(pk_un (by omega)).trans (pk_un (by omega)), (pk_un (by omega)).trans (pk_un (by omega)), (pk_un (by omega)).trans (pk_un (by omega))⟩)⟩
  · refine none ?_
    unfold tr_kids
    rw [pk_us, if_neg (fun y => k3 (gk3.mp y)), if_neg (fun y => k4 (gk4.mp y)), if_neg (fun y => k1 (gk1.mp y.1))]
/-- Y adds the node -/
theorem yw_add {post : Int32 → SY → Prop} {g s : Nat} {v2 ag : Int32} {hd : tr_H} {hs : List tr_H} (hnc : nc < 48) (g4 : g ≤ 4) (hcc : cc ≤ 12) (h7 : hd.1 ≤ 7) (hrc : rc < 8) (hl : hlc = hs.length + 1) (hl16 : hlc ≤ 16) (hag : ag = if g = 0 ∨ g = 3 then 0 else v2) (hg1 : g = 1 → ∃ c, c < cc ∧ v2 = nI c) (h16 : hs.length + (tr_kids (upd a_nodeKind nc (nI g)) (upd a_nodeArg nc ag) a_ctorFirst a_ctorSecond nc hd.1 hd.2.1).length ≤ 16) (hsz : b_rowSize rc = nI s) (H : rl_HY b_holePos b_holeType b_holeUp (hd :: hs))
    (h : ∀ bP bY bU, rl_HY bP bY bU (tr_kids (upd a_nodeKind nc (nI g)) (upd a_nodeArg nc ag) a_ctorFirst a_ctorSecond nc hd.1 hd.2.1 ++ hs) → post (nI nc) (nI tt, nI rl, nI rt, ph, nI cc, nI (nc + 1), nI rc, nI (tr_kids (upd a_nodeKind nc (nI g)) (upd a_nodeArg nc ag) a_ctorFirst a_ctorSecond nc hd.1 hd.2.1 ++ hs).length, lr, ro, a_ctorType, a_ctorFirst, a_ctorSecond, (upd a_nodeKind nc (nI g)), (upd a_nodeArg nc ag), (upd a_nodePos nc (nI hd.1)), upd a_nodeRow nc (nI rc), upd b_nUp nc hd.2.2.1, a_rowFirst, upd b_rowSize rc (nI (s + 1)), a_guardKind, a_guardA, a_guardB, bP, bY, bU, b_head, b_headType, b_binds, b_look, b_lookType, b_bound, b_hit, b_part)) : wY_put_284 post (nI g) v2 (nI hd.1) hd.2.1 (nI (tr_kids (upd a_nodeKind nc (nI g)) (upd a_nodeArg nc ag) a_ctorFirst a_ctorSecond nc hd.1 hd.2.1).length) (nI (hs.length + (tr_kids (upd a_nodeKind nc (nI g)) (upd a_nodeArg nc ag) a_ctorFirst a_ctorSecond nc hd.1 hd.2.1).length)) (nI tt) (nI rl) (nI rt) ph (nI cc) (nI nc) (nI rc) (nI hlc) lr ro a_ctorType a_ctorFirst a_ctorSecond a_nodeKind a_nodeArg a_nodePos a_nodeRow b_nUp a_rowFirst b_rowSize a_guardKind a_guardA a_guardB b_holePos b_holeType b_holeUp b_head b_headType b_binds b_look b_lookType b_bound b_hit b_part := by
  have e : (nI nc).toNatClampNeg = nc := nI_clamp (by omega)
  have w : vp_in (nI nc) 48 := vp_in_nI hnc (by omega)
  have gk0 : nI g = (0 : Int32) ↔ g = 0 := nI_eq (b := 0) (by omega) (by omega)
  have gk1 : nI g = (1 : Int32) ↔ g = 1 := nI_eq (b := 1) (by omega) (by omega)
  have gk3 : nI g = (3 : Int32) ↔ g = 3 := nI_eq (b := 3) (by omega) (by omega)
  have gk4 : nI g = (4 : Int32) ↔ g = 4 := nI_eq (b := 4) (by omega) (by omega)
  have ez : nI hlc - 1 = nI hs.length := by rw [hl]; exact pk_sub (b := 1) (by omega)
  have eh : (nI hlc - 1).toNatClampNeg = hs.length := by rw [ez]; exact nI_clamp (by omega)
  have wh : vp_in (nI hlc - 1) 16 := by rw [ez]; exact vp_in_nI (by omega) (by omega)
  have fin : ∀ x, x = ag → wY_put_339 post (nI g) v2 (nI hd.1) hd.2.1 (nI (tr_kids (upd a_nodeKind nc (nI g)) (upd a_nodeArg nc ag) a_ctorFirst a_ctorSecond nc hd.1 hd.2.1).length) (nI (hs.length + (tr_kids (upd a_nodeKind nc (nI g)) (upd a_nodeArg nc ag) a_ctorFirst a_ctorSecond nc hd.1 hd.2.1).length)) x (nI nc) (nI tt) (nI rl) (nI rt) ph (nI cc) (nI nc) (nI rc) (nI hlc) lr ro a_ctorType a_ctorFirst a_ctorSecond (upd a_nodeKind nc (nI g)) a_nodeArg (upd a_nodePos nc (nI hd.1)) (upd a_nodeRow nc (nI rc)) b_nUp a_rowFirst b_rowSize a_guardKind a_guardA a_guardB b_holePos b_holeType b_holeUp b_head b_headType b_binds b_look b_lookType b_bound b_hit b_part := by
    intro x ex
    subst ex
    refine ⟨w, nm_r (e' := upd a_nodeArg nc x) (by rw [e]) ⟨wh, w, nm_r (e' := upd b_nUp nc hd.2.2.1) (by rw [e, eh, H.2.2.1]) ?_⟩⟩
    exact yw_put_lp g4 hcc h7 hrc (fun z => by rw [hag, if_neg (by omega)]) hg1 h16 hsz H.2.2.2 h
  refine ⟨w, nm_r (e' := (upd a_nodeKind nc (nI g))) (by rw [e]) ⟨w, nm_r (e' := (upd a_nodePos nc (nI hd.1))) (by rw [e]) ⟨w, nm_r (e' := upd a_nodeRow nc (nI rc)) (by rw [e]) (br_c (fun z => fin 0 ?_) (fun z => br_c (fun y => fin 0 ?_) (fun y => fin v2 ?_)))⟩⟩⟩
  · rw [hag, if_pos (Or.inl (gk0.mp z))]
  · rw [hag, if_pos (Or.inr (gk3.mp y))]
  · rw [hag, if_neg]
    rintro (a | a)
    · exact z (gk0.mpr a)
    · exact y (gk3.mpr a)
end
end
section
section
variable {tt rl rt cc rc nc hlc clc sc qt : Nat} {ph ro misF lr : Int32} {solM livM : Int64} {a_ctorType a_ctorFirst a_ctorSecond a_typeSize a_typeCtors a_rowFirst a_rowSize a_guardKind a_guardA a_guardB a_clauseFirst a_nodeKind a_nodeArg a_nodePos a_nodeRow a_altOf a_altSide a_nodeNew a_after a_holePos a_holeType a_holeOwner a_holeSide a_clauseRow a_clauseTests a_testHead a_clauseBind a_litCount a_lits a_freshInt a_stateOpen a_statePos a_stateNext a_child a_bucketHead a_pin a_marked a_queue a_val a_valType a_bound : Nat → Int32} {a_clauseNodes a_stateMask : Nat → Int64} {b_nUp b_rowSize b_holePos b_holeType b_holeUp b_head b_headType b_binds b_look b_lookType b_bound b_hit b_part : Nat → Int32}
variable {k : Nat} {fr sz cf : Nat → Nat}
theorem xw_holes {post : Int32 → Prop} {g p : Nat} {v2 : Int32} (hcc : cc ≤ 12) (g4 : g ≤ 4) (p7 : p ≤ 7) (hg1 : g = 1 → ∃ c, c < cc ∧ v2 = nI c) (h : post (nI (pm_m a_ctorFirst a_ctorSecond g v2 p))) : wpX_holesMade post (nI tt, nI rl, nI rt, ph, nI cc, nI rc, ro, nI nc, nI hlc, nI clc, nI sc, solM, livM, misF, nI qt, lr, a_ctorType, a_ctorFirst, a_ctorSecond, a_typeSize, a_typeCtors, a_rowFirst, a_rowSize, a_guardKind, a_guardA, a_guardB, a_clauseFirst, a_nodeKind, a_nodeArg, a_nodePos, a_nodeRow, a_altOf, a_altSide, a_nodeNew, a_after, a_holePos, a_holeType, a_holeOwner, a_holeSide, a_clauseRow, a_clauseNodes, a_clauseTests, a_testHead, a_clauseBind, a_litCount, a_lits, a_freshInt, a_stateMask, a_stateOpen, a_statePos, a_stateNext, a_child, a_bucketHead, a_pin, a_marked, a_queue, a_val, a_valType, a_bound) (nI g) v2 (nI p) := by
  have gk1 : nI g = (1 : Int32) ↔ g = 1 := nI_eq (b := 1) (by omega) (by omega)
  have gk3 : nI g = (3 : Int32) ↔ g = 3 := nI_eq (b := 3) (by omega) (by omega)
  have gk4 : nI g = (4 : Int32) ↔ g = 4 := nI_eq (b := 4) (by omega) (by omega)
  unfold pm_m at h
  refine br_c (fun a => ?_) (fun a => br_c (fun b => ?_) (fun b => br_c (fun c => ?_) (fun c => ?_)))
  · rw [if_pos (gk3.mp a)] at h; exact h
  · rw [if_neg (fun z => a (gk3.mpr z)), if_pos (gk4.mp b)] at h; exact h
  · rw [if_neg (fun z => a (gk3.mpr z)), if_neg (fun z => b (gk4.mpr z))] at h
    obtain ⟨d, d1, rfl⟩ := hg1 (gk1.mp c)
    have ec : (nI d).toNatClampNeg = d := nI_clamp (by omega)
    have wc : vp_in (nI d) 12 := vp_in_nI (by omega) (by omega)
    refine pk_lt 3 p (fun z => ?_) (fun z => ⟨wc, br_c (fun f => ?_) (fun f => ⟨wc, br_c (fun s => ?_) (fun s => ?_)⟩)⟩)
    · rw [if_neg (by omega)] at h; exact h
    · rw [if_pos ⟨gk1.mp c, z⟩, if_pos f] at h; exact h
    · rw [if_pos ⟨gk1.mp c, z⟩, if_neg f, if_pos s] at h; exact h
    · rw [if_pos ⟨gk1.mp c, z⟩, if_neg f, if_neg s] at h; exact h
  · rw [if_neg (fun z => a (gk3.mpr z)), if_neg (fun z => b (gk4.mpr z)), if_neg (fun z => c (gk1.mpr z.1))] at h; exact h
theorem yw_start {post : Int32 → SY → Prop} {g : Nat} {v2 : Int32} {hd : tr_H} {hs : List tr_H} (g4 : g ≤ 4) (hro : ro = 1) (hl : hlc = hs.length + 1) (hl16 : hlc ≤ 16) (hcc : cc ≤ 12) (h7 : hd.1 ≤ 7) (hg1 : g = 1 → ∃ c, c < cc ∧ v2 = nI c ∧ a_ctorType c = hd.2.1) (hg2 : g = 2 → hd.2.1 = 0) (hg4 : g = 4 → ∃ v, v < 4 ∧ v2 = nI v) (H : rl_HY b_holePos b_holeType b_holeUp (hd :: hs))
    (h : wY_put_194 post (nI g) v2 (nI hd.1) hd.2.1 (nI (pm_m a_ctorFirst a_ctorSecond g v2 hd.1)) (nI tt) (nI rl) (nI rt) ph (nI cc) (nI nc) (nI rc) (nI hlc) lr ro a_ctorType a_ctorFirst a_ctorSecond a_nodeKind a_nodeArg a_nodePos a_nodeRow b_nUp a_rowFirst b_rowSize a_guardKind a_guardA a_guardB b_holePos b_holeType b_holeUp b_head b_headType b_binds b_look b_lookType b_bound b_hit b_part) : wpY_put post (nI tt, nI rl, nI rt, ph, nI cc, nI nc, nI rc, nI hlc, lr, ro, a_ctorType, a_ctorFirst, a_ctorSecond, a_nodeKind, a_nodeArg, a_nodePos, a_nodeRow, b_nUp, a_rowFirst, b_rowSize, a_guardKind, a_guardA, a_guardB, b_holePos, b_holeType, b_holeUp, b_head, b_headType, b_binds, b_look, b_lookType, b_bound, b_hit, b_part) (nI g) v2 := by
  have gk1 : nI g = (1 : Int32) ↔ g = 1 := nI_eq (b := 1) (by omega) (by omega)
  have gk2 : nI g = (2 : Int32) ↔ g = 2 := nI_eq (b := 2) (by omega) (by omega)
  have gk3 : nI g = (3 : Int32) ↔ g = 3 := nI_eq (b := 3) (by omega) (by omega)
  have gk4 : nI g = (4 : Int32) ↔ g = 4 := nI_eq (b := 4) (by omega) (by omega)
  have ez : nI hlc - 1 = nI hs.length := by rw [hl]; exact pk_sub (b := 1) (by omega)
  have eh : (nI hlc - 1).toNatClampNeg = hs.length := by rw [ez]; exact nI_clamp (by omega)
  have wh : vp_in (nI hlc - 1) 16 := by rw [ez]; exact vp_in_nI (by omega) (by omega)
  unfold pm_m at h
  have S151 : ∀ z0, (g = 3 → z0 = 2) → (g = 4 → z0 = 1) → (g ≠ 3 → g ≠ 4 → z0 = 0) → wY_put_151 post (nI g) v2 (nI hd.1) hd.2.1 z0 (nI tt) (nI rl) (nI rt) ph (nI cc) (nI nc) (nI rc) (nI hlc) lr ro a_ctorType a_ctorFirst a_ctorSecond a_nodeKind a_nodeArg a_nodePos a_nodeRow b_nUp a_rowFirst b_rowSize a_guardKind a_guardA a_guardB b_holePos b_holeType b_holeUp b_head b_headType b_binds b_look b_lookType b_bound b_hit b_part := by
    intro z0 q3 q4 q0
    refine br_c (fun c => ?_) (fun c => ?_)
    · have g1 := gk1.mp c
      have z00 := q0 (by omega) (by omega)
      subst z00
      obtain ⟨d, d1, rfl, _⟩ := hg1 g1
      have wc : vp_in (nI d) 12 := vp_in_nI (by omega) (by omega)
      rw [if_neg (by omega), if_neg (by omega)] at h
      refine pk_lt 3 hd.1 (fun z => ?_) (fun z => ⟨wc, br_c (fun f => ?_) (fun f => ⟨wc, br_c (fun s => ?_) (fun s => ?_)⟩)⟩)
      · rw [if_neg (by omega)] at h; exact h
      · rw [if_pos ⟨g1, z⟩, if_pos f] at h; exact h
      · rw [if_pos ⟨g1, z⟩, if_neg f, if_pos s] at h; exact h
      · rw [if_pos ⟨g1, z⟩, if_neg f, if_neg s] at h; exact h
    · by_cases a : g = 3
      · rw [if_pos a] at h; rw [q3 a]; exact h
      · by_cases b : g = 4
        · rw [if_neg a, if_pos b] at h; rw [q4 b]; exact h
        · rw [if_neg a, if_neg b, if_neg (fun z => c (gk1.mpr z.1))] at h; rw [q0 a b]; exact h
  have S132 : wY_put_132 post (nI g) v2 (nI hd.1) hd.2.1 (nI tt) (nI rl) (nI rt) ph (nI cc) (nI nc) (nI rc) (nI hlc) lr ro a_ctorType a_ctorFirst a_ctorSecond a_nodeKind a_nodeArg a_nodePos a_nodeRow b_nUp a_rowFirst b_rowSize a_guardKind a_guardA a_guardB b_holePos b_holeType b_holeUp b_head b_headType b_binds b_look b_lookType b_bound b_hit b_part := by
    refine br_c (fun a => S151 2 (fun _ => rfl) (fun z => ?_) (fun z => ?_)) (fun a => br_c (fun b => S151 1 (fun z => absurd (gk3.mpr z) a) (fun z => rfl) (fun _ z => absurd (gk4.mp b) z)) (fun b => S151 0 (fun z => absurd (gk3.mpr z) a) (fun z => absurd (gk4.mpr z) b) (fun _ _ => rfl)))
    · have := gk3.mp a; omega
    · exact absurd (gk3.mp a) z
  have S119 : wY_put_119 post (nI g) v2 (nI hd.1) hd.2.1 (nI tt) (nI rl) (nI rt) ph (nI cc) (nI nc) (nI rc) (nI hlc) lr ro a_ctorType a_ctorFirst a_ctorSecond a_nodeKind a_nodeArg a_nodePos a_nodeRow b_nUp a_rowFirst b_rowSize a_guardKind a_guardA a_guardB b_holePos b_holeType b_holeUp b_head b_headType b_binds b_look b_lookType b_bound b_hit b_part := br_c (fun a => br_t (hg2 (gk2.mp a)) S132) (fun _ => S132)
  have S78 : wY_put_78 post (nI g) v2 (nI tt) (nI rl) (nI rt) ph (nI cc) (nI nc) (nI rc) (nI hlc) lr ro a_ctorType a_ctorFirst a_ctorSecond a_nodeKind a_nodeArg a_nodePos a_nodeRow b_nUp a_rowFirst b_rowSize a_guardKind a_guardA a_guardB b_holePos b_holeType b_holeUp b_head b_headType b_binds b_look b_lookType b_bound b_hit b_part := by
    refine ⟨wh, nm_r (e' := nI hd.1) (by rw [eh]; exact H.1) ⟨wh, nm_r (e' := hd.2.1) (by rw [eh]; exact H.2.1) (br_c (fun a => ?_) (fun _ => S119))⟩⟩
    obtain ⟨d, d1, rfl, d2⟩ := hg1 (gk1.mp a)
    exact ⟨vp_in_nI (by omega) (by omega), br_t (by rw [nI_clamp (by omega : d < 2 ^ 31)]; exact d2) S119⟩
  have S61 : wY_put_61 post (nI g) v2 (nI tt) (nI rl) (nI rt) ph (nI cc) (nI nc) (nI rc) (nI hlc) lr ro a_ctorType a_ctorFirst a_ctorSecond a_nodeKind a_nodeArg a_nodePos a_nodeRow b_nUp a_rowFirst b_rowSize a_guardKind a_guardA a_guardB b_holePos b_holeType b_holeUp b_head b_headType b_binds b_look b_lookType b_bound b_hit b_part := by
    refine br_c (fun a => ?_) (fun _ => S78)
    obtain ⟨d, d1, rfl⟩ := hg4 (gk4.mp a)
    exact br_f (nI_pos (by omega)) (br_t (nI_lt (b := 4) d1 (by omega)) S78)
  refine br_f (by rw [hro]; decide) (br_f (nI_ne0 (by omega) (by omega)) (br_f (nI_pos (by omega)) (br_t (nI_le (b := 4) g4 (by omega)) (br_c (fun a => ?_) (fun _ => S61)))))
  obtain ⟨d, d1, rfl, _⟩ := hg1 (gk1.mp a)
  exact br_f (nI_pos (by omega)) (br_t (nI_lt d1 (by omega)) S61)
theorem vc_put (hA : rl_All tt rl rt cc ph a_ctorType a_ctorFirst a_ctorSecond a_typeSize a_typeCtors rc nc clc a_nodeKind a_nodeArg a_nodePos a_nodeRow b_nUp a_altOf a_altSide a_nodeNew a_rowFirst a_rowSize b_rowSize a_guardKind a_guardA a_guardB a_clauseFirst a_clauseRow a_clauseNodes a_clauseTests a_testHead a_clauseBind hlc ro a_holePos a_holeType a_holeOwner a_holeSide b_holePos b_holeType b_holeUp a_valType a_val b_headType b_head sc misF solM livM a_litCount a_lits a_freshInt a_stateMask a_stateOpen a_statePos a_child a_bound b_binds) (v1 v2 : Int32) : wpX_put (fun r u' => wpY_put (fun r' v' => r' = r ∧ i_Rel (k + 4) u' v') (nI tt, nI rl, nI rt, ph, nI cc, nI nc, nI rc, nI hlc, lr, ro, a_ctorType, a_ctorFirst, a_ctorSecond, a_nodeKind, a_nodeArg, a_nodePos, a_nodeRow, b_nUp, a_rowFirst, b_rowSize, a_guardKind, a_guardA, a_guardB, b_holePos, b_holeType, b_holeUp, b_head, b_headType, b_binds, b_look, b_lookType, b_bound, b_hit, b_part) v1 v2) (nI tt, nI rl, nI rt, ph, nI cc, nI rc, ro, nI nc, nI hlc, nI clc, nI sc, solM, livM, misF, nI qt, lr, a_ctorType, a_ctorFirst, a_ctorSecond, a_typeSize, a_typeCtors, a_rowFirst, a_rowSize, a_guardKind, a_guardA, a_guardB, a_clauseFirst, a_nodeKind, a_nodeArg, a_nodePos, a_nodeRow, a_altOf, a_altSide, a_nodeNew, a_after, a_holePos, a_holeType, a_holeOwner, a_holeSide, a_clauseRow, a_clauseNodes, a_clauseTests, a_testHead, a_clauseBind, a_litCount, a_lits, a_freshInt, a_stateMask, a_stateOpen, a_statePos, a_stateNext, a_child, a_bucketHead, a_pin, a_marked, a_queue, a_val, a_valType, a_bound) v1 v2 := by
  have R : i_Rel (k + 4) (nI tt, nI rl, nI rt, ph, nI cc, nI rc, ro, nI nc, nI hlc, nI clc, nI sc, solM, livM, misF, nI qt, lr, a_ctorType, a_ctorFirst, a_ctorSecond, a_typeSize, a_typeCtors, a_rowFirst, a_rowSize, a_guardKind, a_guardA, a_guardB, a_clauseFirst, a_nodeKind, a_nodeArg, a_nodePos, a_nodeRow, a_altOf, a_altSide, a_nodeNew, a_after, a_holePos, a_holeType, a_holeOwner, a_holeSide, a_clauseRow, a_clauseNodes, a_clauseTests, a_testHead, a_clauseBind, a_litCount, a_lits, a_freshInt, a_stateMask, a_stateOpen, a_statePos, a_stateNext, a_child, a_bucketHead, a_pin, a_marked, a_queue, a_val, a_valType, a_bound) (nI tt, nI rl, nI rt, ph, nI cc, nI nc, nI rc, nI hlc, lr, ro, a_ctorType, a_ctorFirst, a_ctorSecond, a_nodeKind, a_nodeArg, a_nodePos, a_nodeRow, b_nUp, a_rowFirst, b_rowSize, a_guardKind, a_guardA, a_guardB, b_holePos, b_holeType, b_holeUp, b_head, b_headType, b_binds, b_look, b_lookType, b_bound, b_hit, b_part) := zz_in hA
  obtain ⟨fr, sz, cf, hT, hN, hO, hV, hB, hG, h0, h1⟩ := hA
  have hT1 := hT.1
  have hrl := hN.1
  have hnc := hN.2.1
  by_cases c1 : ro = 0
  · exact br_t c1 (br_t c1 (br_t c1 ⟨rfl, R⟩))
  obtain ⟨o1, o2, o3, o4, o5, o6, o7, _⟩ := hO.resolve_left (fun z => c1 z.1)
  have hph := h1 c1
  rcases Nat.eq_zero_or_pos hlc with hz | hz
  · subst hz
    exact br_f c1 (br_f (by decide) (br_f c1 (br_t rfl (br_f c1 ⟨rfl, R⟩))))
  obtain ⟨hd, hs, e1, e2, a1, a2, a3, a4, ⟨p1, p7⟩, _, e3, o10, o9, H⟩ := rl_top hO hz
  obtain ⟨HX, HY⟩ := (rl_H_split _).mp H
  have ez : nI hlc - 1 = nI hs.length := by rw [e1]; exact pk_sub (b := 1) (by omega)
  have eh : (nI hlc - 1).toNatClampNeg = hs.length := by rw [ez]; exact nI_clamp (by omega)
  have wh : vp_in (nI hlc - 1) 16 := by rw [ez]; exact vp_in_nI (by omega) (by omega)
  have hn0 : ¬ nI hlc = 0 := nI_ne0 (by omega) (by omega)
  have erc : (nI rc).toNatClampNeg = rc := nI_clamp (by omega)
  have wrc : vp_in (nI rc) 8 := vp_in_nI (by omega) (by omega)
  refine br_f c1 (br_t (nI_lt (a := 0) (by omega) (by omega)) ⟨wh, nm_r (e' := nI hd.1) (by rw [eh]; exact HX.1) ⟨wh, nm_r (e' := hd.2.1) (by rw [eh]; exact HX.2.1) ?_⟩⟩)
  refine br_c (fun n0 => ?_) (fun n0 => br_c (fun l4 => ?_) (fun l4 => ?_))
  · exact br_f (by decide) (br_f c1 (br_f hn0 (br_t n0 ⟨rfl, R⟩)))
  · obtain ⟨g, g4, rfl⟩ := nI_of2 (n := 4) (by decide) n0 l4
    have gk1 : nI g = (1 : Int32) ↔ g = 1 := nI_eq (b := 1) (by omega) (by omega)
    have gk2 : nI g = (2 : Int32) ↔ g = 2 := nI_eq (b := 2) (by omega) (by omega)
    have gk4 : nI g = (4 : Int32) ↔ g = 4 := nI_eq (b := 4) (by omega) (by omega)
    have y61 : ∀ {post : Int32 → SY → Prop}, (g = 1 → ∃ c, c < cc ∧ v2 = nI c) → wY_put_61 post (nI g) v2 (nI tt) (nI rl) (nI rt) ph (nI cc) (nI nc) (nI rc) (nI hlc) lr ro a_ctorType a_ctorFirst a_ctorSecond a_nodeKind a_nodeArg a_nodePos a_nodeRow b_nUp a_rowFirst b_rowSize a_guardKind a_guardA a_guardB b_holePos b_holeType b_holeUp b_head b_headType b_binds b_look b_lookType b_bound b_hit b_part → wpY_put post (nI tt, nI rl, nI rt, ph, nI cc, nI nc, nI rc, nI hlc, lr, ro, a_ctorType, a_ctorFirst, a_ctorSecond, a_nodeKind, a_nodeArg, a_nodePos, a_nodeRow, b_nUp, a_rowFirst, b_rowSize, a_guardKind, a_guardA, a_guardB, b_holePos, b_holeType, b_holeUp, b_head, b_headType, b_binds, b_look, b_lookType, b_bound, b_hit, b_part) (nI g) v2 := by
      intro post q h
      refine br_f c1 (br_f hn0 (br_f n0 (br_t l4 (br_c (fun a => ?_) (fun _ => h)))))
      obtain ⟨d, d1, rfl⟩ := q (gk1.mp a)
      exact br_f (nI_pos (by omega)) (br_t (nI_lt d1 (by omega)) h)
    have y78 : ∀ {post : Int32 → SY → Prop}, (g = 1 → ∃ c, c < cc ∧ v2 = nI c) → (g = 4 → ∃ v, v < 4 ∧ v2 = nI v) → wY_put_78 post (nI g) v2 (nI tt) (nI rl) (nI rt) ph (nI cc) (nI nc) (nI rc) (nI hlc) lr ro a_ctorType a_ctorFirst a_ctorSecond a_nodeKind a_nodeArg a_nodePos a_nodeRow b_nUp a_rowFirst b_rowSize a_guardKind a_guardA a_guardB b_holePos b_holeType b_holeUp b_head b_headType b_binds b_look b_lookType b_bound b_hit b_part → wpY_put post (nI tt, nI rl, nI rt, ph, nI cc, nI nc, nI rc, nI hlc, lr, ro, a_ctorType, a_ctorFirst, a_ctorSecond, a_nodeKind, a_nodeArg, a_nodePos, a_nodeRow, b_nUp, a_rowFirst, b_rowSize, a_guardKind, a_guardA, a_guardB, b_holePos, b_holeType, b_holeUp, b_head, b_headType, b_binds, b_look, b_lookType, b_bound, b_hit, b_part) (nI g) v2 := by
      intro post q q4 h
      refine y61 q (br_c (fun a => ?_) (fun _ => h))
      obtain ⟨d, d1, rfl⟩ := q4 (gk4.mp a)
      exact br_f (nI_pos (by omega)) (br_t (nI_lt (b := 4) d1 (by omega)) h)
    -- the checks of types and room
    have S45 : (g = 1 → ∃ c, c < cc ∧ v2 = nI c) → (g = 4 → ∃ v, v < 4 ∧ v2 = nI v) → wX_checkNode_45 (fun r_7 => (r_7 = 0 → wpX_addNode (fun r u' => wpY_put (fun r' v' => r' = r ∧ i_Rel (k + 4) u' v') (nI tt, nI rl, nI rt, ph, nI cc, nI nc, nI rc, nI hlc, lr, ro, a_ctorType, a_ctorFirst, a_ctorSecond, a_nodeKind, a_nodeArg, a_nodePos, a_nodeRow, b_nUp, a_rowFirst, b_rowSize, a_guardKind, a_guardA, a_guardB, b_holePos, b_holeType, b_holeUp, b_head, b_headType, b_binds, b_look, b_lookType, b_bound, b_hit, b_part) (nI g) v2) (nI tt, nI rl, nI rt, ph, nI cc, nI rc, ro, nI nc, nI hlc, nI clc, nI sc, solM, livM, misF, nI qt, lr, a_ctorType, a_ctorFirst, a_ctorSecond, a_typeSize, a_typeCtors, a_rowFirst, a_rowSize, a_guardKind, a_guardA, a_guardB, a_clauseFirst, a_nodeKind, a_nodeArg, a_nodePos, a_nodeRow, a_altOf, a_altSide, a_nodeNew, a_after, a_holePos, a_holeType, a_holeOwner, a_holeSide, a_clauseRow, a_clauseNodes, a_clauseTests, a_testHead, a_clauseBind, a_litCount, a_lits, a_freshInt, a_stateMask, a_stateOpen, a_statePos, a_stateNext, a_child, a_bucketHead, a_pin, a_marked, a_queue, a_val, a_valType, a_bound) (nI g) v2 (nI hd.1) hd.2.1) ∧ (¬ r_7 = 0 → wpY_put (fun r' v' => r' = r_7 ∧ i_Rel (k + 4) (nI tt, nI rl, nI rt, ph, nI cc, nI rc, ro, nI nc, nI hlc, nI clc, nI sc, solM, livM, misF, nI qt, lr, a_ctorType, a_ctorFirst, a_ctorSecond, a_typeSize, a_typeCtors, a_rowFirst, a_rowSize, a_guardKind, a_guardA, a_guardB, a_clauseFirst, a_nodeKind, a_nodeArg, a_nodePos, a_nodeRow, a_altOf, a_altSide, a_nodeNew, a_after, a_holePos, a_holeType, a_holeOwner, a_holeSide, a_clauseRow, a_clauseNodes, a_clauseTests, a_testHead, a_clauseBind, a_litCount, a_lits, a_freshInt, a_stateMask, a_stateOpen, a_statePos, a_stateNext, a_child, a_bucketHead, a_pin, a_marked, a_queue, a_val, a_valType, a_bound) v') (nI tt, nI rl, nI rt, ph, nI cc, nI nc, nI rc, nI hlc, lr, ro, a_ctorType, a_ctorFirst, a_ctorSecond, a_nodeKind, a_nodeArg, a_nodePos, a_nodeRow, b_nUp, a_rowFirst, b_rowSize, a_guardKind, a_guardA, a_guardB, b_holePos, b_holeType, b_holeUp, b_head, b_headType, b_binds, b_look, b_lookType, b_bound, b_hit, b_part) (nI g) v2)) (nI g) v2 (nI hd.1) hd.2.1 (nI tt) (nI rl) (nI rt) ph (nI cc) (nI rc) ro (nI nc) (nI hlc) (nI clc) (nI sc) solM livM misF (nI qt) lr a_ctorType a_ctorFirst a_ctorSecond a_typeSize a_typeCtors a_rowFirst a_rowSize a_guardKind a_guardA a_guardB a_clauseFirst a_nodeKind a_nodeArg a_nodePos a_nodeRow a_altOf a_altSide a_nodeNew a_after a_holePos a_holeType a_holeOwner a_holeSide a_clauseRow a_clauseNodes a_clauseTests a_testHead a_clauseBind a_litCount a_lits a_freshInt a_stateMask a_stateOpen a_statePos a_stateNext a_child a_bucketHead a_pin a_marked a_queue a_val a_valType a_bound := by
      intro q1 q4
      have S77 : (g = 1 → ∃ c, c < cc ∧ v2 = nI c ∧ a_ctorType c = hd.2.1) → (g = 2 → hd.2.1 = 0) → wX_checkNode_77 (fun r_7 => (r_7 = 0 → wpX_addNode (fun r u' => wpY_put (fun r' v' => r' = r ∧ i_Rel (k + 4) u' v') (nI tt, nI rl, nI rt, ph, nI cc, nI nc, nI rc, nI hlc, lr, ro, a_ctorType, a_ctorFirst, a_ctorSecond, a_nodeKind, a_nodeArg, a_nodePos, a_nodeRow, b_nUp, a_rowFirst, b_rowSize, a_guardKind, a_guardA, a_guardB, b_holePos, b_holeType, b_holeUp, b_head, b_headType, b_binds, b_look, b_lookType, b_bound, b_hit, b_part) (nI g) v2) (nI tt, nI rl, nI rt, ph, nI cc, nI rc, ro, nI nc, nI hlc, nI clc, nI sc, solM, livM, misF, nI qt, lr, a_ctorType, a_ctorFirst, a_ctorSecond, a_typeSize, a_typeCtors, a_rowFirst, a_rowSize, a_guardKind, a_guardA, a_guardB, a_clauseFirst, a_nodeKind, a_nodeArg, a_nodePos, a_nodeRow, a_altOf, a_altSide, a_nodeNew, a_after, a_holePos, a_holeType, a_holeOwner, a_holeSide, a_clauseRow, a_clauseNodes, a_clauseTests, a_testHead, a_clauseBind, a_litCount, a_lits, a_freshInt, a_stateMask, a_stateOpen, a_statePos, a_stateNext, a_child, a_bucketHead, a_pin, a_marked, a_queue, a_val, a_valType, a_bound) (nI g) v2 (nI hd.1) hd.2.1) ∧ (¬ r_7 = 0 → wpY_put (fun r' v' => r' = r_7 ∧ i_Rel (k + 4) (nI tt, nI rl, nI rt, ph, nI cc, nI rc, ro, nI nc, nI hlc, nI clc, nI sc, solM, livM, misF, nI qt, lr, a_ctorType, a_ctorFirst, a_ctorSecond, a_typeSize, a_typeCtors, a_rowFirst, a_rowSize, a_guardKind, a_guardA, a_guardB, a_clauseFirst, a_nodeKind, a_nodeArg, a_nodePos, a_nodeRow, a_altOf, a_altSide, a_nodeNew, a_after, a_holePos, a_holeType, a_holeOwner, a_holeSide, a_clauseRow, a_clauseNodes, a_clauseTests, a_testHead, a_clauseBind, a_litCount, a_lits, a_freshInt, a_stateMask, a_stateOpen, a_statePos, a_stateNext, a_child, a_bucketHead, a_pin, a_marked, a_queue, a_val, a_valType, a_bound) v') (nI tt, nI rl, nI rt, ph, nI cc, nI nc, nI rc, nI hlc, lr, ro, a_ctorType, a_ctorFirst, a_ctorSecond, a_nodeKind, a_nodeArg, a_nodePos, a_nodeRow, b_nUp, a_rowFirst, b_rowSize, a_guardKind, a_guardA, a_guardB, b_holePos, b_holeType, b_holeUp, b_head, b_headType, b_binds, b_look, b_lookType, b_bound, b_hit, b_part) (nI g) v2)) (nI g) v2 (nI hd.1) (nI tt) (nI rl) (nI rt) ph (nI cc) (nI rc) ro (nI nc) (nI hlc) (nI clc) (nI sc) solM livM misF (nI qt) lr a_ctorType a_ctorFirst a_ctorSecond a_typeSize a_typeCtors a_rowFirst a_rowSize a_guardKind a_guardA a_guardB a_clauseFirst a_nodeKind a_nodeArg a_nodePos a_nodeRow a_altOf a_altSide a_nodeNew a_after a_holePos a_holeType a_holeOwner a_holeSide a_clauseRow a_clauseNodes a_clauseTests a_testHead a_clauseBind a_litCount a_lits a_freshInt a_stateMask a_stateOpen a_statePos a_stateNext a_child a_bucketHead a_pin a_marked a_queue a_val a_valType a_bound := by
        intro q1' q2
        obtain ⟨ag, hag⟩ : ∃ ag : Int32, ag = if g = 0 ∨ g = 3 then 0 else v2 := ⟨_, rfl⟩
        have hagv : ¬ (g = 0 ∨ g = 3) → ag = v2 := fun z => by rw [hag, if_neg z]
        obtain ⟨m, em⟩ : ∃ m, m = (tr_kids (upd a_nodeKind nc (nI g)) (upd a_nodeArg nc ag) a_ctorFirst a_ctorSecond nc hd.1 hd.2.1).length := ⟨_, rfl⟩
        have km : (tr_kids (upd a_nodeKind nc (nI g)) (upd a_nodeArg nc ag) a_ctorFirst a_ctorSecond nc hd.1 hd.2.1).length = (pm_m a_ctorFirst a_ctorSecond g v2 hd.1) := pm_kk g4 (fun z => hagv (by omega))
        have m2 : (pm_m a_ctorFirst a_ctorSecond g v2 hd.1) ≤ 2 := by unfold pm_m; (repeat' split) <;> omega
        have hfr := rl_frle hN rc (Nat.le_refl _)
        have emp : (pm_m a_ctorFirst a_ctorSecond g v2 hd.1) = m := by rw [em, km]
        have ys : ∀ {post : Int32 → SY → Prop}, wY_put_194 post (nI g) v2 (nI hd.1) hd.2.1 (nI m) (nI tt) (nI rl) (nI rt) ph (nI cc) (nI nc) (nI rc) (nI hlc) lr ro a_ctorType a_ctorFirst a_ctorSecond a_nodeKind a_nodeArg a_nodePos a_nodeRow b_nUp a_rowFirst b_rowSize a_guardKind a_guardA a_guardB b_holePos b_holeType b_holeUp b_head b_headType b_binds b_look b_lookType b_bound b_hit b_part → wpY_put post (nI tt, nI rl, nI rt, ph, nI cc, nI nc, nI rc, nI hlc, lr, ro, a_ctorType, a_ctorFirst, a_ctorSecond, a_nodeKind, a_nodeArg, a_nodePos, a_nodeRow, b_nUp, a_rowFirst, b_rowSize, a_guardKind, a_guardA, a_guardB, b_holePos, b_holeType, b_holeUp, b_head, b_headType, b_binds, b_look, b_lookType, b_bound, b_hit, b_part) (nI g) v2 := by
          intro post h
          rw [← emp] at h
          exact yw_start g4 o1 e1 e2 hT1.2.2.2.2.2 p7 q1' q2 q4 HY h
        rw [emp] at m2
        have ex6 : nI hlc - 1 + nI m = nI (hs.length + m) := by rw [ez, nI_add]
        have yx : b_rowSize (nI rc).toNatClampNeg + 1 + nI (hs.length + m) = nI (nc - fr rc + (hlc + m)) := by
          rw [erc, o4, nI_1, nI_add, show nc - fr rc + 1 + (hs.length + m) = nc - fr rc + (hlc + m) by omega]
        have yy : nI nc + 1 + nI (hs.length + m) = nI (nc + (hlc + m)) := by
          rw [nI_1, nI_add, show nc + 1 + (hs.length + m) = nc + (hlc + m) by omega]
        refine xw_holes hT1.2.2.2.2.2 g4 p7 q1 ?_
        rw [emp]
        refine nm_r (nI_add hlc m) ⟨wrc, nm_r (e' := nI (nc - fr rc)) (by rw [erc, o3]; exact pk_sub hfr) ?_⟩
        rw [nI_add, nI_add]
        refine pk_lt 16 (nc - fr rc + (hlc + m)) (fun z => br_f (by decide) (ys (nm_r ex6 ⟨wrc, br_t ?_ ⟨rfl, R⟩⟩))) (fun z => pk_le (nc + (hlc + m)) 48 (fun y => ?_) (fun y => br_f (by decide) (ys (nm_r ex6 ⟨wrc, br_f ?_ (br_f ?_ ⟨rfl, R⟩)⟩))))
        · rw [yx]; exact nI_lt (a := 16) z (by omega)
        · have y251 : ∀ {post : Int32 → SY → Prop}, wY_put_251 post (nI g) v2 (nI hd.1) hd.2.1 (nI m) (nI (hs.length + m)) (nI (xl_lim hd.1)) (nI tt) (nI rl) (nI rt) ph (nI cc) (nI nc) (nI rc) (nI hlc) lr ro a_ctorType a_ctorFirst a_ctorSecond a_nodeKind a_nodeArg a_nodePos a_nodeRow b_nUp a_rowFirst b_rowSize a_guardKind a_guardA a_guardB b_holePos b_holeType b_holeUp b_head b_headType b_binds b_look b_lookType b_bound b_hit b_part → wpY_put post (nI tt, nI rl, nI rt, ph, nI cc, nI nc, nI rc, nI hlc, lr, ro, a_ctorType, a_ctorFirst, a_ctorSecond, a_nodeKind, a_nodeArg, a_nodePos, a_nodeRow, b_nUp, a_rowFirst, b_rowSize, a_guardKind, a_guardA, a_guardB, b_holePos, b_holeType, b_holeUp, b_head, b_headType, b_binds, b_look, b_lookType, b_bound, b_hit, b_part) (nI g) v2 := by
            intro post h
            refine ys (nm_r ex6 ⟨wrc, br_f ?_ (br_t ?_ (pk_lt 3 hd.1 (fun w => ?_) (fun w => ?_)))⟩)
            · rw [yx]; exact nI_nlt (a := 16) z (by omega)
            · rw [yy]; exact nI_le (b := 48) y (by omega)
            · unfold xl_lim at h; rw [if_neg (by omega)] at h; exact h
            · unfold xl_lim at h; rw [if_pos w] at h; exact h
          have add : (g = 2 → ¬ xl_lit a_nodeKind a_nodeArg a_nodePos nc hd.1 v2 → xl_cnt a_nodeNew a_nodePos hd.1 nc < xl_lim hd.1) → wpX_addNode (fun r u' => wpY_put (fun r' v' => r' = r ∧ i_Rel (k + 4) u' v') (nI tt, nI rl, nI rt, ph, nI cc, nI nc, nI rc, nI hlc, lr, ro, a_ctorType, a_ctorFirst, a_ctorSecond, a_nodeKind, a_nodeArg, a_nodePos, a_nodeRow, b_nUp, a_rowFirst, b_rowSize, a_guardKind, a_guardA, a_guardB, b_holePos, b_holeType, b_holeUp, b_head, b_headType, b_binds, b_look, b_lookType, b_bound, b_hit, b_part) (nI g) v2) (nI tt, nI rl, nI rt, ph, nI cc, nI rc, ro, nI nc, nI hlc, nI clc, nI sc, solM, livM, misF, nI qt, lr, a_ctorType, a_ctorFirst, a_ctorSecond, a_typeSize, a_typeCtors, a_rowFirst, a_rowSize, a_guardKind, a_guardA, a_guardB, a_clauseFirst, a_nodeKind, a_nodeArg, a_nodePos, a_nodeRow, a_altOf, a_altSide, a_nodeNew, a_after, a_holePos, a_holeType, a_holeOwner, a_holeSide, a_clauseRow, a_clauseNodes, a_clauseTests, a_testHead, a_clauseBind, a_litCount, a_lits, a_freshInt, a_stateMask, a_stateOpen, a_statePos, a_stateNext, a_child, a_bucketHead, a_pin, a_marked, a_queue, a_val, a_valType, a_bound) (nI g) v2 (nI hd.1) hd.2.1 := by
            intro hlim
            have hnw : lc_b (lc_d (g = 2 ∧ ¬ xl_lit a_nodeKind a_nodeArg a_nodePos nc hd.1 ag)) ≠ 0 ↔ g = 2 ∧ ¬ xl_lit a_nodeKind a_nodeArg a_nodePos nc hd.1 ag := by
              by_cases q : g = 2 ∧ ¬ xl_lit a_nodeKind a_nodeArg a_nodePos nc hd.1 ag
              · rw [lc_dt.mpr q]; exact ⟨fun _ => q, fun _ => by decide⟩
              · rw [lc_df.mpr q]; exact ⟨fun w => absurd rfl w, fun w => absurd w q⟩
            refine xw_addNode (ag := ag) (by omega) hT1.2.2.2.2.2 (by omega) hT.2.2.2.2.1 e1 (by omega) e2 p7 g4 (fun w => ?_) hag rfl HX (fun HP HY' HO HS hX => y251 ?_)
            · obtain ⟨c, d1, d2⟩ := q1 w; exact ⟨c, d1, (hagv (by omega)).trans d2⟩
            have Y284 : wY_put_284 (fun r' v' => r' = nI nc ∧ i_Rel (k + 4) (nI tt, nI rl, nI rt, ph, nI cc, nI rc, ro, nI (nc + 1), nI (tr_kids (upd a_nodeKind nc (nI g)) (upd a_nodeArg nc ag) a_ctorFirst a_ctorSecond nc hd.1 hd.2.1 ++ hs).length, nI clc, nI sc, solM, livM, misF, nI qt, lr, a_ctorType, a_ctorFirst, a_ctorSecond, a_typeSize, a_typeCtors, a_rowFirst, a_rowSize, a_guardKind, a_guardA, a_guardB, a_clauseFirst, upd a_nodeKind nc (nI g), upd a_nodeArg nc ag, upd a_nodePos nc (nI hd.1), upd a_nodeRow nc (nI rc), upd a_altOf nc hd.2.2.2.1, upd a_altSide nc hd.2.2.2.2, upd a_nodeNew nc (lc_b (lc_d (g = 2 ∧ ¬ xl_lit a_nodeKind a_nodeArg a_nodePos nc hd.1 ag))), a_after, HP, HY', HO, HS, a_clauseRow, a_clauseNodes, a_clauseTests, a_testHead, a_clauseBind, a_litCount, a_lits, a_freshInt, a_stateMask, a_stateOpen, a_statePos, a_stateNext, a_child, a_bucketHead, a_pin, a_marked, a_queue, a_val, a_valType, a_bound) v') (nI g) v2 (nI hd.1) hd.2.1 (nI m) (nI (hs.length + m)) (nI tt) (nI rl) (nI rt) ph (nI cc) (nI nc) (nI rc) (nI hlc) lr ro a_ctorType a_ctorFirst a_ctorSecond a_nodeKind a_nodeArg a_nodePos a_nodeRow b_nUp a_rowFirst b_rowSize a_guardKind a_guardA a_guardB b_holePos b_holeType b_holeUp b_head b_headType b_binds b_look b_lookType b_bound b_hit b_part := by
              rw [em]
              refine yw_add (s := nc - fr rc) (by omega) g4 hT1.2.2.2.2.2 p7 (by omega) e1 e2 hag q1 (by omega) o4 HY (fun bP bY bU hYY => ⟨rfl, ?_⟩)
              rw [← Nat.sub_add_comm hfr]
              exact rl_putR (k := k) (nw := lc_b (lc_d (g = 2 ∧ ¬ xl_lit a_nodeKind a_nodeArg a_nodePos nc hd.1 ag))) hT hN hV hB hph o1 o2 o3 o5 o9 o10 g4 (fun w => by obtain ⟨c, d1, d2, d3⟩ := q1' w; exact ⟨c, d1, (hagv (by omega)).trans d2, d3⟩) q2 (fun w => by obtain ⟨c, d1, d2⟩ := q4 w; exact ⟨c, d1, (hagv (by omega)).trans d2⟩) hnw (fun w => by have w' := hnw.mp w; exact hlim w'.1 (by rw [← hagv (by omega)]; exact w'.2)) (by omega) (by omega) hX hYY
            refine br_c (fun a => yw_isLiteral hnc (lc_br (fun q => yw_literals hnc hN.2.2.2.2.2.2.2.1 (br_t ?_ Y284)) (fun q => Y284))) (fun a => Y284)
            exact nI_lt (hlim (gk2.mp a) (lc_df.mp q)) (by unfold xl_lim; split <;> omega)
          refine br_c (fun a => ?_) (fun a => br_t rfl (add (fun w => absurd (gk2.mpr w) a)))
          have S160 : ¬ xl_lit a_nodeKind a_nodeArg a_nodePos nc hd.1 v2 → wX_checkNode_160 (fun r_7 => (r_7 = 0 → wpX_addNode (fun r u' => wpY_put (fun r' v' => r' = r ∧ i_Rel (k + 4) u' v') (nI tt, nI rl, nI rt, ph, nI cc, nI nc, nI rc, nI hlc, lr, ro, a_ctorType, a_ctorFirst, a_ctorSecond, a_nodeKind, a_nodeArg, a_nodePos, a_nodeRow, b_nUp, a_rowFirst, b_rowSize, a_guardKind, a_guardA, a_guardB, b_holePos, b_holeType, b_holeUp, b_head, b_headType, b_binds, b_look, b_lookType, b_bound, b_hit, b_part) (nI g) v2) (nI tt, nI rl, nI rt, ph, nI cc, nI rc, ro, nI nc, nI hlc, nI clc, nI sc, solM, livM, misF, nI qt, lr, a_ctorType, a_ctorFirst, a_ctorSecond, a_typeSize, a_typeCtors, a_rowFirst, a_rowSize, a_guardKind, a_guardA, a_guardB, a_clauseFirst, a_nodeKind, a_nodeArg, a_nodePos, a_nodeRow, a_altOf, a_altSide, a_nodeNew, a_after, a_holePos, a_holeType, a_holeOwner, a_holeSide, a_clauseRow, a_clauseNodes, a_clauseTests, a_testHead, a_clauseBind, a_litCount, a_lits, a_freshInt, a_stateMask, a_stateOpen, a_statePos, a_stateNext, a_child, a_bucketHead, a_pin, a_marked, a_queue, a_val, a_valType, a_bound) (nI g) v2 (nI hd.1) hd.2.1) ∧ (¬ r_7 = 0 → wpY_put (fun r' v' => r' = r_7 ∧ i_Rel (k + 4) (nI tt, nI rl, nI rt, ph, nI cc, nI rc, ro, nI nc, nI hlc, nI clc, nI sc, solM, livM, misF, nI qt, lr, a_ctorType, a_ctorFirst, a_ctorSecond, a_typeSize, a_typeCtors, a_rowFirst, a_rowSize, a_guardKind, a_guardA, a_guardB, a_clauseFirst, a_nodeKind, a_nodeArg, a_nodePos, a_nodeRow, a_altOf, a_altSide, a_nodeNew, a_after, a_holePos, a_holeType, a_holeOwner, a_holeSide, a_clauseRow, a_clauseNodes, a_clauseTests, a_testHead, a_clauseBind, a_litCount, a_lits, a_freshInt, a_stateMask, a_stateOpen, a_statePos, a_stateNext, a_child, a_bucketHead, a_pin, a_marked, a_queue, a_val, a_valType, a_bound) v') (nI tt, nI rl, nI rt, ph, nI cc, nI nc, nI rc, nI hlc, lr, ro, a_ctorType, a_ctorFirst, a_ctorSecond, a_nodeKind, a_nodeArg, a_nodePos, a_nodeRow, b_nUp, a_rowFirst, b_rowSize, a_guardKind, a_guardA, a_guardB, b_holePos, b_holeType, b_holeUp, b_head, b_headType, b_binds, b_look, b_lookType, b_bound, b_hit, b_part) (nI g) v2)) (nI hd.1) (nI (xl_lim hd.1)) (nI tt) (nI rl) (nI rt) ph (nI cc) (nI rc) ro (nI nc) (nI hlc) (nI clc) (nI sc) solM livM misF (nI qt) lr a_ctorType a_ctorFirst a_ctorSecond a_typeSize a_typeCtors a_rowFirst a_rowSize a_guardKind a_guardA a_guardB a_clauseFirst a_nodeKind a_nodeArg a_nodePos a_nodeRow a_altOf a_altSide a_nodeNew a_after a_holePos a_holeType a_holeOwner a_holeSide a_clauseRow a_clauseNodes a_clauseTests a_testHead a_clauseBind a_litCount a_lits a_freshInt a_stateMask a_stateOpen a_statePos a_stateNext a_child a_bucketHead a_pin a_marked a_queue a_val a_valType a_bound := by
            intro q
            refine xw_litsAt hnc (br_c (fun w => br_t rfl (add (fun _ _ => ?_))) (fun w => br_f (by decide) (y251 ?_)))
            · have := xl_cntle (NW := a_nodeNew) (P := a_nodePos) (p := hd.1) nc
              exact (nI_ltI (by omega) (by unfold xl_lim; split <;> omega)).mp w
            · exact br_t a (yw_isLiteral hnc (by rw [lc_df.mpr q]; exact br_t rfl (yw_literals hnc hN.2.2.2.2.2.2.2.1 (br_f w ⟨rfl, R⟩))))
          refine xw_litPresent hnc (lc_br (fun q => ?_) (fun q => br_t rfl (add (fun _ w => absurd (lc_dt.mp q) w))))
          have s1 := S160 (lc_df.mp q)
          refine pk_lt 3 hd.1 (fun w => ?_) (fun w => ?_)
          · unfold xl_lim at s1; rw [if_neg (by omega)] at s1; exact s1
          · unfold xl_lim at s1; rw [if_pos w] at s1; exact s1
        · rw [yx]; exact nI_nlt (a := 16) z (by omega)
        · rw [yy]; exact nI_ge (a := 48) y (by omega)
      have S64 : (g = 1 → ∃ c, c < cc ∧ v2 = nI c ∧ a_ctorType c = hd.2.1) → wX_checkNode_64 (fun r_7 => (r_7 = 0 → wpX_addNode (fun r u' => wpY_put (fun r' v' => r' = r ∧ i_Rel (k + 4) u' v') (nI tt, nI rl, nI rt, ph, nI cc, nI nc, nI rc, nI hlc, lr, ro, a_ctorType, a_ctorFirst, a_ctorSecond, a_nodeKind, a_nodeArg, a_nodePos, a_nodeRow, b_nUp, a_rowFirst, b_rowSize, a_guardKind, a_guardA, a_guardB, b_holePos, b_holeType, b_holeUp, b_head, b_headType, b_binds, b_look, b_lookType, b_bound, b_hit, b_part) (nI g) v2) (nI tt, nI rl, nI rt, ph, nI cc, nI rc, ro, nI nc, nI hlc, nI clc, nI sc, solM, livM, misF, nI qt, lr, a_ctorType, a_ctorFirst, a_ctorSecond, a_typeSize, a_typeCtors, a_rowFirst, a_rowSize, a_guardKind, a_guardA, a_guardB, a_clauseFirst, a_nodeKind, a_nodeArg, a_nodePos, a_nodeRow, a_altOf, a_altSide, a_nodeNew, a_after, a_holePos, a_holeType, a_holeOwner, a_holeSide, a_clauseRow, a_clauseNodes, a_clauseTests, a_testHead, a_clauseBind, a_litCount, a_lits, a_freshInt, a_stateMask, a_stateOpen, a_statePos, a_stateNext, a_child, a_bucketHead, a_pin, a_marked, a_queue, a_val, a_valType, a_bound) (nI g) v2 (nI hd.1) hd.2.1) ∧ (¬ r_7 = 0 → wpY_put (fun r' v' => r' = r_7 ∧ i_Rel (k + 4) (nI tt, nI rl, nI rt, ph, nI cc, nI rc, ro, nI nc, nI hlc, nI clc, nI sc, solM, livM, misF, nI qt, lr, a_ctorType, a_ctorFirst, a_ctorSecond, a_typeSize, a_typeCtors, a_rowFirst, a_rowSize, a_guardKind, a_guardA, a_guardB, a_clauseFirst, a_nodeKind, a_nodeArg, a_nodePos, a_nodeRow, a_altOf, a_altSide, a_nodeNew, a_after, a_holePos, a_holeType, a_holeOwner, a_holeSide, a_clauseRow, a_clauseNodes, a_clauseTests, a_testHead, a_clauseBind, a_litCount, a_lits, a_freshInt, a_stateMask, a_stateOpen, a_statePos, a_stateNext, a_child, a_bucketHead, a_pin, a_marked, a_queue, a_val, a_valType, a_bound) v') (nI tt, nI rl, nI rt, ph, nI cc, nI nc, nI rc, nI hlc, lr, ro, a_ctorType, a_ctorFirst, a_ctorSecond, a_nodeKind, a_nodeArg, a_nodePos, a_nodeRow, b_nUp, a_rowFirst, b_rowSize, a_guardKind, a_guardA, a_guardB, b_holePos, b_holeType, b_holeUp, b_head, b_headType, b_binds, b_look, b_lookType, b_bound, b_hit, b_part) (nI g) v2)) (nI g) v2 (nI hd.1) hd.2.1 (nI tt) (nI rl) (nI rt) ph (nI cc) (nI rc) ro (nI nc) (nI hlc) (nI clc) (nI sc) solM livM misF (nI qt) lr a_ctorType a_ctorFirst a_ctorSecond a_typeSize a_typeCtors a_rowFirst a_rowSize a_guardKind a_guardA a_guardB a_clauseFirst a_nodeKind a_nodeArg a_nodePos a_nodeRow a_altOf a_altSide a_nodeNew a_after a_holePos a_holeType a_holeOwner a_holeSide a_clauseRow a_clauseNodes a_clauseTests a_testHead a_clauseBind a_litCount a_lits a_freshInt a_stateMask a_stateOpen a_statePos a_stateNext a_child a_bucketHead a_pin a_marked a_queue a_val a_valType a_bound := by
        intro q1'
        refine br_c (fun a => br_c (fun b => S77 q1' (fun _ => b)) (fun b => br_f (by decide) (y78 q1 q4 ?_))) (fun a => S77 q1' (fun z => absurd (gk2.mpr z) a))
        have n1 : ¬ nI g = 1 := fun z => by have := gk1.mp z; have := gk2.mp a; omega
        exact ⟨wh, nm_r (e' := nI hd.1) (by rw [eh]; exact HY.1) ⟨wh, nm_r (e' := hd.2.1) (by rw [eh]; exact HY.2.1) (br_f n1 (br_t a (br_f b ⟨rfl, R⟩)))⟩⟩
      refine br_c (fun a => ?_) (fun a => S64 (fun z => absurd (gk1.mpr z) a))
      obtain ⟨c, d1, rfl⟩ := q1 (gk1.mp a)
      have ec : (nI c).toNatClampNeg = c := nI_clamp (by omega)
      have wc : vp_in (nI c) 12 := vp_in_nI (by omega) (by omega)
      refine ⟨wc, br_c (fun b => S64 (fun _ => ⟨c, d1, rfl, by rw [ec] at b; exact b⟩)) (fun b => br_f (by decide) (y78 q1 q4 ?_))⟩
      exact ⟨wh, nm_r (e' := nI hd.1) (by rw [eh]; exact HY.1) ⟨wh, nm_r (e' := hd.2.1) (by rw [eh]; exact HY.2.1) (br_t a ⟨wc, br_f b ⟨rfl, R⟩⟩)⟩⟩
    have S28 : (g = 1 → ∃ c, c < cc ∧ v2 = nI c) → wX_checkNode_28 (fun r_7 => (r_7 = 0 → wpX_addNode (fun r u' => wpY_put (fun r' v' => r' = r ∧ i_Rel (k + 4) u' v') (nI tt, nI rl, nI rt, ph, nI cc, nI nc, nI rc, nI hlc, lr, ro, a_ctorType, a_ctorFirst, a_ctorSecond, a_nodeKind, a_nodeArg, a_nodePos, a_nodeRow, b_nUp, a_rowFirst, b_rowSize, a_guardKind, a_guardA, a_guardB, b_holePos, b_holeType, b_holeUp, b_head, b_headType, b_binds, b_look, b_lookType, b_bound, b_hit, b_part) (nI g) v2) (nI tt, nI rl, nI rt, ph, nI cc, nI rc, ro, nI nc, nI hlc, nI clc, nI sc, solM, livM, misF, nI qt, lr, a_ctorType, a_ctorFirst, a_ctorSecond, a_typeSize, a_typeCtors, a_rowFirst, a_rowSize, a_guardKind, a_guardA, a_guardB, a_clauseFirst, a_nodeKind, a_nodeArg, a_nodePos, a_nodeRow, a_altOf, a_altSide, a_nodeNew, a_after, a_holePos, a_holeType, a_holeOwner, a_holeSide, a_clauseRow, a_clauseNodes, a_clauseTests, a_testHead, a_clauseBind, a_litCount, a_lits, a_freshInt, a_stateMask, a_stateOpen, a_statePos, a_stateNext, a_child, a_bucketHead, a_pin, a_marked, a_queue, a_val, a_valType, a_bound) (nI g) v2 (nI hd.1) hd.2.1) ∧ (¬ r_7 = 0 → wpY_put (fun r' v' => r' = r_7 ∧ i_Rel (k + 4) (nI tt, nI rl, nI rt, ph, nI cc, nI rc, ro, nI nc, nI hlc, nI clc, nI sc, solM, livM, misF, nI qt, lr, a_ctorType, a_ctorFirst, a_ctorSecond, a_typeSize, a_typeCtors, a_rowFirst, a_rowSize, a_guardKind, a_guardA, a_guardB, a_clauseFirst, a_nodeKind, a_nodeArg, a_nodePos, a_nodeRow, a_altOf, a_altSide, a_nodeNew, a_after, a_holePos, a_holeType, a_holeOwner, a_holeSide, a_clauseRow, a_clauseNodes, a_clauseTests, a_testHead, a_clauseBind, a_litCount, a_lits, a_freshInt, a_stateMask, a_stateOpen, a_statePos, a_stateNext, a_child, a_bucketHead, a_pin, a_marked, a_queue, a_val, a_valType, a_bound) v') (nI tt, nI rl, nI rt, ph, nI cc, nI nc, nI rc, nI hlc, lr, ro, a_ctorType, a_ctorFirst, a_ctorSecond, a_nodeKind, a_nodeArg, a_nodePos, a_nodeRow, b_nUp, a_rowFirst, b_rowSize, a_guardKind, a_guardA, a_guardB, b_holePos, b_holeType, b_holeUp, b_head, b_headType, b_binds, b_look, b_lookType, b_bound, b_hit, b_part) (nI g) v2)) (nI g) v2 (nI hd.1) hd.2.1 (nI tt) (nI rl) (nI rt) ph (nI cc) (nI rc) ro (nI nc) (nI hlc) (nI clc) (nI sc) solM livM misF (nI qt) lr a_ctorType a_ctorFirst a_ctorSecond a_typeSize a_typeCtors a_rowFirst a_rowSize a_guardKind a_guardA a_guardB a_clauseFirst a_nodeKind a_nodeArg a_nodePos a_nodeRow a_altOf a_altSide a_nodeNew a_after a_holePos a_holeType a_holeOwner a_holeSide a_clauseRow a_clauseNodes a_clauseTests a_testHead a_clauseBind a_litCount a_lits a_freshInt a_stateMask a_stateOpen a_statePos a_stateNext a_child a_bucketHead a_pin a_marked a_queue a_val a_valType a_bound := by
      intro q1
      refine br_c (fun a => br_c (fun b => ?_) (fun b => br_c (fun d => ?_) (fun d => ?_))) (fun a => S45 q1 (fun z => absurd (gk4.mpr z) a))
      · exact br_f (by decide) (y61 q1 (br_t a (br_t b ⟨rfl, R⟩)))
      · obtain ⟨j, j1, rfl⟩ := nI_of b
        exact S45 q1 (fun _ => ⟨j, (nI_ltI (b := 4) j1 (by omega)).mp d, rfl⟩)
      · exact br_f (by decide) (y61 q1 (br_t a (br_f b (br_f d ⟨rfl, R⟩))))
    refine br_c (fun a => xw_isCtor (fun b => br_t rfl (br_f (by decide) ?_)) (fun b0 b1 => br_f (by decide) (S28 (fun _ => rl_ix b0 b1)))) (fun a => S28 (fun z => absurd (gk1.mpr z) a))
    refine br_f c1 (br_f hn0 (br_f n0 (br_t l4 (br_t a ?_))))
    rcases b with b | b
    · exact br_t b ⟨rfl, R⟩
    · by_cases b' : v2 < 0
      · exact br_t b' ⟨rfl, R⟩
      · exact br_f b' (br_f (fun z => absurd z (Int32.not_lt.mpr b)) ⟨rfl, R⟩)
  · exact br_f (by decide) (br_f c1 (br_f hn0 (br_f n0 (br_f l4 ⟨rfl, R⟩))))
end
end
section
def cl_f (a b c : Int32) : Int32 := if b ≤ a then (if a ≤ c then a else c) else b
theorem cl_nat {a : Int32} {b c : Nat} (hbc : b ≤ c) (hc : c < 2 ^ 31) : ∃ j, b ≤ j ∧ j ≤ c ∧ cl_f a (nI b) (nI c) = nI j := by
  unfold cl_f
  by_cases z : nI b ≤ a
  · rw [if_pos z]
    by_cases y : a ≤ nI c
    · rw [if_pos y]
      have n0 : ¬ a < 0 := fun w => nI_pos (by omega : b < 2 ^ 31) (Int32.lt_of_le_of_lt z w)
      obtain ⟨j, j1, rfl⟩ := nI_of n0
      exact ⟨j, (nI_leI (by omega) j1).mp z, (nI_leI j1 (by omega)).mp y, rfl⟩
    · rw [if_neg y]; exact ⟨c, hbc, Nat.le_refl _, rfl⟩
  · rw [if_neg z]; exact ⟨b, Nat.le_refl _, hbc, rfl⟩
section
variable {f_typeTotal f_rowLimit f_rootType f_phase f_ctorCount f_rowCount f_rowOpen f_nodeCount f_holeCount f_clauseCount f_stateCount : Int32} {f_solidClauses f_liveNodes : Int64} {f_someMissing f_queueTail f_lastRow : Int32}
variable {f_types f_maxRows f_root f_open : Int32}
variable {tt rl rt cc rc nc hlc clc sc qt : Nat} {ph ro misF lr : Int32} {solM livM : Int64} {a_ctorType a_ctorFirst a_ctorSecond a_typeSize a_typeCtors a_rowFirst a_rowSize a_guardKind a_guardA a_guardB a_clauseFirst a_nodeKind a_nodeArg a_nodePos a_nodeRow a_altOf a_altSide a_nodeNew a_after a_holePos a_holeType a_holeOwner a_holeSide a_clauseRow a_clauseTests a_testHead a_clauseBind a_litCount a_lits a_freshInt a_stateOpen a_statePos a_stateNext a_child a_bucketHead a_pin a_marked a_queue a_val a_valType a_bound : Nat → Int32} {a_clauseNodes a_stateMask : Nat → Int64} {b_nUp b_rowSize b_holePos b_holeType b_holeUp b_head b_headType b_binds b_look b_lookType b_bound b_hit b_part : Nat → Int32}
theorem xw_clamp {post : Int32 → Prop} {a b c : Int32} (h : post (cl_f a b c)) : wpX_clamp post (f_typeTotal, f_rowLimit, f_rootType, f_phase, f_ctorCount, f_rowCount, f_rowOpen, f_nodeCount, f_holeCount, f_clauseCount, f_stateCount, f_solidClauses, f_liveNodes, f_someMissing, f_queueTail, f_lastRow, a_ctorType, a_ctorFirst, a_ctorSecond, a_typeSize, a_typeCtors, a_rowFirst, a_rowSize, a_guardKind, a_guardA, a_guardB, a_clauseFirst, a_nodeKind, a_nodeArg, a_nodePos, a_nodeRow, a_altOf, a_altSide, a_nodeNew, a_after, a_holePos, a_holeType, a_holeOwner, a_holeSide, a_clauseRow, a_clauseNodes, a_clauseTests, a_testHead, a_clauseBind, a_litCount, a_lits, a_freshInt, a_stateMask, a_stateOpen, a_statePos, a_stateNext, a_child, a_bucketHead, a_pin, a_marked, a_queue, a_val, a_valType, a_bound) a b c := by
  unfold cl_f at h
  refine br_c (fun z => br_c (fun y => ?_) (fun y => ?_)) (fun z => ?_)
  · rw [if_pos z, if_pos y] at h; exact h
  · rw [if_pos z, if_neg y] at h; exact h
  · rw [if_neg z] at h; exact h
theorem yw_clamp {post : Int32 → Prop} {a b c : Int32} (h : post (cl_f a b c)) : wpY_clamp post (f_types, f_maxRows, f_root, f_phase, f_ctorCount, f_nodeCount, f_rowCount, f_holeCount, f_lastRow, f_open, (a_ctorType, a_ctorFirst, a_ctorSecond, a_nodeKind, a_nodeArg, a_nodePos, a_nodeRow, b_nUp, a_rowFirst, b_rowSize, a_guardKind, a_guardA, a_guardB, b_holePos, b_holeType, b_holeUp, b_head, b_headType, b_binds, b_look, b_lookType, b_bound, b_hit, b_part)) a b c := by
  unfold cl_f at h
  refine br_c (fun z => br_c (fun y => ?_) (fun y => ?_)) (fun z => ?_)
  · rw [if_pos z, if_pos y] at h; exact h
  · rw [if_pos z, if_neg y] at h; exact h
  · rw [if_neg z] at h; exact h
end
section
variable {tt rl rt cc rc nc hlc clc sc qt : Nat} {ph ro misF lr : Int32} {solM livM : Int64} {a_ctorType a_ctorFirst a_ctorSecond a_typeSize a_typeCtors a_rowFirst a_rowSize a_guardKind a_guardA a_guardB a_clauseFirst a_nodeKind a_nodeArg a_nodePos a_nodeRow a_altOf a_altSide a_nodeNew a_after a_holePos a_holeType a_holeOwner a_holeSide a_clauseRow a_clauseTests a_testHead a_clauseBind a_litCount a_lits a_freshInt a_stateOpen a_statePos a_stateNext a_child a_bucketHead a_pin a_marked a_queue a_val a_valType a_bound : Nat → Int32} {a_clauseNodes a_stateMask : Nat → Int64} {b_nUp b_rowSize b_holePos b_holeType b_holeUp b_head b_headType b_binds b_look b_lookType b_bound b_hit b_part : Nat → Int32}
variable {k : Nat} {fr sz cf : Nat → Nat}
theorem xw_initlp {post : SX → Prop} (h : ∀ VT, (∀ q, q < 8 → VT q = -1) → post (nI tt, nI rl, nI rt, ph, nI cc, nI rc, ro, nI nc, nI hlc, nI clc, nI sc, solM, livM, misF, nI qt, lr, a_ctorType, a_ctorFirst, a_ctorSecond, a_typeSize, a_typeCtors, a_rowFirst, a_rowSize, a_guardKind, a_guardA, a_guardB, a_clauseFirst, a_nodeKind, a_nodeArg, a_nodePos, a_nodeRow, a_altOf, a_altSide, a_nodeNew, a_after, a_holePos, a_holeType, a_holeOwner, a_holeSide, a_clauseRow, a_clauseNodes, a_clauseTests, a_testHead, a_clauseBind, a_litCount, a_lits, a_freshInt, a_stateMask, a_stateOpen, a_statePos, a_stateNext, a_child, a_bucketHead, a_pin, a_marked, a_queue, a_val, VT, a_bound)) : ∃ n, wX_init_407 post (nI tt) (nI rl) (nI rt) ph (nI cc) (nI rc) ro (nI nc) (nI hlc) (nI clc) (nI sc) solM livM misF (nI qt) lr n 0 a_ctorType a_ctorFirst a_ctorSecond a_typeSize a_typeCtors a_rowFirst a_rowSize a_guardKind a_guardA a_guardB a_clauseFirst a_nodeKind a_nodeArg a_nodePos a_nodeRow a_altOf a_altSide a_nodeNew a_after a_holePos a_holeType a_holeOwner a_holeSide a_clauseRow a_clauseNodes a_clauseTests a_testHead a_clauseBind a_litCount a_lits a_freshInt a_stateMask a_stateOpen a_statePos a_stateNext a_child a_bucketHead a_pin a_marked a_queue a_val a_valType a_bound := by
  have loop : ∀ d i VT, i + d = 8 → (∀ q, q < i → VT q = -1) → wX_init_407 post (nI tt) (nI rl) (nI rt) ph (nI cc) (nI rc) ro (nI nc) (nI hlc) (nI clc) (nI sc) solM livM misF (nI qt) lr (d + 1) (nI i) a_ctorType a_ctorFirst a_ctorSecond a_typeSize a_typeCtors a_rowFirst a_rowSize a_guardKind a_guardA a_guardB a_clauseFirst a_nodeKind a_nodeArg a_nodePos a_nodeRow a_altOf a_altSide a_nodeNew a_after a_holePos a_holeType a_holeOwner a_holeSide a_clauseRow a_clauseNodes a_clauseTests a_testHead a_clauseBind a_litCount a_lits a_freshInt a_stateMask a_stateOpen a_statePos a_stateNext a_child a_bucketHead a_pin a_marked a_queue a_val VT a_bound := by
    intro d
    induction d with
    | zero =>
      intro i VT hi h1
      have : i = 8 := by omega
      subst this
      exact br_t (nI_le (a := 8) (b := 8) (by omega) (by omega)) (h VT h1)
    | succ d ih =>
      intro i VT hi h1
      refine br_f (nI_ge (a := i) (b := 8) (by omega) (by omega)) ⟨vp_in_nI (by omega) (by omega), nm_r (e' := upd VT i (-1)) (by rw [nI_clamp (by omega)]) (nm_r (nI_1 i) (ih (i + 1) _ (by omega) (fun v hv => ?_)))⟩
      by_cases q : v = i
      · subst q; exact pk_us
      · rw [pk_un q]; exact h1 v (by omega)
  exact ⟨9, loop 8 0 a_valType (by omega) (fun v hv => by omega)⟩
theorem yw_initlp {post : SY → Prop} (h : ∀ VT BD, (∀ q, q < 8 → VT q = -1) → (∀ v, v < 4 → BD v = 0) → post (nI tt, nI rl, nI rt, ph, nI cc, nI nc, nI rc, nI hlc, -11, ro, a_ctorType, a_ctorFirst, a_ctorSecond, a_nodeKind, a_nodeArg, a_nodePos, a_nodeRow, b_nUp, a_rowFirst, b_rowSize, a_guardKind, a_guardA, a_guardB, b_holePos, b_holeType, b_holeUp, b_head, VT, BD, b_look, b_lookType, b_bound, b_hit, b_part)) : ∃ n, wY_init_234 post (nI tt) (nI rl) (nI rt) ph (nI cc) (nI nc) (nI rc) (nI hlc) lr ro n 0 a_ctorType a_ctorFirst a_ctorSecond a_nodeKind a_nodeArg a_nodePos a_nodeRow b_nUp a_rowFirst b_rowSize a_guardKind a_guardA a_guardB b_holePos b_holeType b_holeUp b_head b_headType b_binds b_look b_lookType b_bound b_hit b_part := by
  have loop : ∀ d i VT, i + d = 8 → (∀ q, q < i → VT q = -1) → wY_init_234 post (nI tt) (nI rl) (nI rt) ph (nI cc) (nI nc) (nI rc) (nI hlc) lr ro (d + 1) (nI i) a_ctorType a_ctorFirst a_ctorSecond a_nodeKind a_nodeArg a_nodePos a_nodeRow b_nUp a_rowFirst b_rowSize a_guardKind a_guardA a_guardB b_holePos b_holeType b_holeUp b_head VT b_binds b_look b_lookType b_bound b_hit b_part := by
    intro d
    induction d with
    | zero =>
      intro i VT hi h1
      have : i = 8 := by omega
      subst this
      exact br_t (nI_le (a := 8) (b := 8) (by omega) (by omega)) (yw_forget (fun BD hBD => h VT BD h1 hBD))
    | succ d ih =>
      intro i VT hi h1
      refine br_f (nI_ge (a := i) (b := 8) (by omega) (by omega)) ⟨vp_in_nI (by omega) (by omega), nm_r (e' := upd VT i (-1)) (by rw [nI_clamp (by omega)]) (nm_r (nI_1 i) (ih (i + 1) _ (by omega) (fun v hv => ?_)))⟩
      by_cases q : v = i
      · subst q; exact pk_us
      · rw [pk_un q]; exact h1 v (by omega)
  exact ⟨9, loop 8 0 b_headType (by omega) (fun v hv => by omega)⟩
theorem rl_init (ht : 1 ≤ tt ∧ tt ≤ 4 ∧ 1 ≤ rl ∧ rl ≤ 8 ∧ rt ≤ tt) (hsz : ∀ k, a_typeSize k = 0) (hV : ∀ q, q < 8 → a_valType q = -1) (hW : ∀ q, q < 8 → b_headType q = -1) (hb : ∀ v, v < 4 → a_bound v = b_binds v) : rl_All tt rl rt 0 0 a_ctorType a_ctorFirst a_ctorSecond a_typeSize a_typeCtors 0 0 0 a_nodeKind a_nodeArg a_nodePos a_nodeRow b_nUp a_altOf a_altSide a_nodeNew a_rowFirst a_rowSize b_rowSize a_guardKind a_guardA a_guardB a_clauseFirst a_clauseRow a_clauseNodes a_clauseTests a_testHead a_clauseBind 0 0 a_holePos a_holeType a_holeOwner a_holeSide b_holePos b_holeType b_holeUp a_valType a_val b_headType b_head sc misF solM livM a_litCount a_lits a_freshInt a_stateMask a_stateOpen a_statePos a_child a_bound b_binds := by
  refine ⟨fun _ => 0, fun _ => 0, fun _ => 0, ⟨⟨ht.1, ht.2.1, ht.2.2.1, ht.2.2.2.1, ht.2.2.2.2, by omega⟩, Or.inl rfl, fun c hc => by omega, ?_, fun c hc => by omega, fun k k1 k4 => ⟨hsz k, by rw [xt_cnt]; omega⟩, ?_, fun z => absurd rfl z⟩, rl_N0 rfl rfl rfl rfl rfl, Or.inl ⟨rfl, rfl, rfl⟩, ⟨fun p p1 p7 => ⟨(hW p (by omega)).trans (hV p (by omega)).symm, fun z => absurd (hV p (by omega)) z, fun z => absurd (hV p (by omega)) z, fun z => absurd (hV p (by omega)) z⟩, ?_, fun _ p p1 p7 => hV p (by omega)⟩, hb, fun z => absurd z (by decide), fun _ => ⟨rfl, rfl⟩, fun z => absurd rfl z⟩
  · exact fun c hc => absurd hc (by omega)
  · exact fun k _ _ => ⟨0, by omega, hsz k, fun i hi => absurd hi (by omega), fun i j _ hj => absurd hj (by omega), fun c hc => absurd hc (by omega)⟩
  · exact fun p _ p7 => Or.inl (hV p (by omega))
end
theorem i_vc0 (k0 : Int32) (k1 : Int32) (k2 : Int32) : wpX_init (fun u => wpY_init (fun v => i_Rel 3 u v) k0 k1 k2) k0 k1 k2 := by
  obtain ⟨tt, t1, t2, et⟩ := cl_nat (a := k0) (b := 1) (c := 4) (by omega) (by omega)
  obtain ⟨rl, r1, r2, er⟩ := cl_nat (a := k1) (b := 1) (c := 8) (by omega) (by omega)
  obtain ⟨rt, q1, q2, eq⟩ := cl_nat (a := k2) (b := 0) (c := tt) (by omega) (by omega)
  have et' : cl_f k0 1 4 = nI tt := et
  have er' : cl_f k1 1 8 = nI rl := er
  have eq' : cl_f k2 0 (nI tt) = nI rt := eq
  refine xw_clamp ?_
  rw [et']
  refine xw_clamp ?_
  rw [er']
  refine xw_clamp ?_
  rw [eq']
  refine xw_initlp (cc := 0) (rc := 0) (nc := 0) (hlc := 0) (clc := 0) (sc := 0) (qt := 0) (fun VT hVT => ?_)
  refine yw_clamp ?_
  rw [et']
  refine yw_clamp ?_
  rw [er']
  refine yw_clamp ?_
  rw [eq']
  refine yw_initlp (cc := 0) (rc := 0) (nc := 0) (hlc := 0) (fun HT BD hHT hBD => ?_)
  exact zz_in (cc := 0) (rc := 0) (nc := 0) (hlc := 0) (clc := 0) (sc := 0) (qt := 0) (rl_init ⟨t1, t2, r1, r2, q2⟩ (fun _ => rfl) hVT hHT (fun v hv => (hBD v hv).symm))
end
section
theorem i_vc_addConstructor {k : Nat} {u : SX} {v : SY} (I : i_Rel k u v) (hk : k + 4 ≤ 2051) (v1 : Int32) (v2 : Int32) (v3 : Int32) : wpX_addConstructor (fun r u' => wpY_addConstructor (fun r' v' => r' = r ∧ i_Rel (k + 4) u' v') v v1 v2 v3) u v1 v2 v3 :=
  zz_el (P := fun u v => wpX_addConstructor (fun r u' => wpY_addConstructor (fun r' v' => r' = r ∧ i_Rel (k + 4) u' v') v v1 v2 v3) u v1 v2 v3) (fun _ _ _ _ _ _ _ _ _ _ _ _ _ _ _ _ _ _ _ _ _ _ _ _ _ _ _ _ _ _ _ _ _ _ _ _ _ _ _ _ _ _ _ _ _ _ _ _ _ _ _ _ _ _ _ _ _ _ _ _ _ _ _ _ _ _ _ _ _ _ _ _ hA => vc_addConstructor hA v1 v2 v3) I
theorem i_vc_seal {k : Nat} {u : SX} {v : SY} (I : i_Rel k u v) (hk : k + 4 ≤ 2051) : wpX_seal (fun r u' => wpY_seal (fun r' v' => r' = r ∧ i_Rel (k + 4) u' v') v) u :=
  zz_el (P := fun u v => wpX_seal (fun r u' => wpY_seal (fun r' v' => r' = r ∧ i_Rel (k + 4) u' v') v) u) (fun _ _ _ _ _ _ _ _ _ _ _ _ _ _ _ _ _ _ _ _ _ _ _ _ _ _ _ _ _ _ _ _ _ _ _ _ _ _ _ _ _ _ _ _ _ _ _ _ _ _ _ _ _ _ _ _ _ _ _ _ _ _ _ _ _ _ _ _ _ _ _ _ hA => vc_seal hA ) I
theorem i_vc_beginRow {k : Nat} {u : SX} {v : SY} (I : i_Rel k u v) (hk : k + 4 ≤ 2051) : wpX_beginRow (fun r u' => wpY_beginRow (fun r' v' => r' = r ∧ i_Rel (k + 4) u' v') v) u :=
  zz_el (P := fun u v => wpX_beginRow (fun r u' => wpY_beginRow (fun r' v' => r' = r ∧ i_Rel (k + 4) u' v') v) u) (fun _ _ _ _ _ _ _ _ _ _ _ _ _ _ _ _ _ _ _ _ _ _ _ _ _ _ _ _ _ _ _ _ _ _ _ _ _ _ _ _ _ _ _ _ _ _ _ _ _ _ _ _ _ _ _ _ _ _ _ _ _ _ _ _ _ _ _ _ _ _ _ _ hA => vc_beginRow hA ) I
theorem i_vc_put {k : Nat} {u : SX} {v : SY} (I : i_Rel k u v) (hk : k + 4 ≤ 2051) (v1 : Int32) (v2 : Int32) : wpX_put (fun r u' => wpY_put (fun r' v' => r' = r ∧ i_Rel (k + 4) u' v') v v1 v2) u v1 v2 :=
  zz_el (P := fun u v => wpX_put (fun r u' => wpY_put (fun r' v' => r' = r ∧ i_Rel (k + 4) u' v') v v1 v2) u v1 v2) (fun _ _ _ _ _ _ _ _ _ _ _ _ _ _ _ _ _ _ _ _ _ _ _ _ _ _ _ _ _ _ _ _ _ _ _ _ _ _ _ _ _ _ _ _ _ _ _ _ _ _ _ _ _ _ _ _ _ _ _ _ _ _ _ _ _ _ _ _ _ _ _ _ hA => vc_put hA v1 v2) I
theorem i_vc_endRow {k : Nat} {u : SX} {v : SY} (I : i_Rel k u v) (hk : k + 4 ≤ 2051) (v1 : Int32) (v2 : Int32) (v3 : Int32) : wpX_endRow (fun r u' => wpY_endRow (fun r' v' => r' = r ∧ i_Rel (k + 4) u' v') v v1 v2 v3) u v1 v2 v3 :=
  zz_el (P := fun u v => wpX_endRow (fun r u' => wpY_endRow (fun r' v' => r' = r ∧ i_Rel (k + 4) u' v') v v1 v2 v3) u v1 v2 v3) (fun _ _ _ _ _ _ _ _ _ _ _ _ _ _ _ _ _ _ _ _ _ _ _ _ _ _ _ _ _ _ _ _ _ _ _ _ _ _ _ _ _ _ _ _ _ _ _ _ _ _ _ _ _ _ _ _ _ _ _ _ _ _ _ _ _ _ _ _ _ _ _ _ hA => vc_endRow hA v1 v2 v3) I
theorem i_vc_dropRow {k : Nat} {u : SX} {v : SY} (I : i_Rel k u v) (hk : k + 4 ≤ 2051) : wpX_dropRow (fun r u' => wpY_dropRow (fun r' v' => r' = r ∧ i_Rel (k + 4) u' v') v) u :=
  zz_el (P := fun u v => wpX_dropRow (fun r u' => wpY_dropRow (fun r' v' => r' = r ∧ i_Rel (k + 4) u' v') v) u) (fun _ _ _ _ _ _ _ _ _ _ _ _ _ _ _ _ _ _ _ _ _ _ _ _ _ _ _ _ _ _ _ _ _ _ _ _ _ _ _ _ _ _ _ _ _ _ _ _ _ _ _ _ _ _ _ _ _ _ _ _ _ _ _ _ _ _ _ _ _ _ _ _ hA => vc_dropRow hA ) I
theorem i_vc_compile {k : Nat} {u : SX} {v : SY} (I : i_Rel k u v) (hk : k + 4 ≤ 2051) : wpX_compile (fun r u' => wpY_compile (fun r' v' => r' = r ∧ i_Rel (k + 4) u' v') v) u :=
  zz_el (P := fun u v => wpX_compile (fun r u' => wpY_compile (fun r' v' => r' = r ∧ i_Rel (k + 4) u' v') v) u) (fun _ _ _ _ _ _ _ _ _ _ _ _ _ _ _ _ _ _ _ _ _ _ _ _ _ _ _ _ _ _ _ _ _ _ _ _ _ _ _ _ _ _ _ _ _ _ _ _ _ _ _ _ _ _ _ _ _ _ _ _ _ _ _ _ _ _ _ _ _ _ _ _ hA => vc_compile hA ) I
theorem i_vc_verdict {k : Nat} {u : SX} {v : SY} (I : i_Rel k u v) (hk : k + 4 ≤ 2051) : wpX_verdict (fun r => wpY_verdict (fun r' v' => r' = r ∧ i_Rel (k + 4) u v') v) u :=
  zz_el (P := fun u v => wpX_verdict (fun r => wpY_verdict (fun r' v' => r' = r ∧ i_Rel (k + 4) u v') v) u) (fun _ _ _ _ _ _ _ _ _ _ _ _ _ _ _ _ _ _ _ _ _ _ _ _ _ _ _ _ _ _ _ _ _ _ _ _ _ _ _ _ _ _ _ _ _ _ _ _ _ _ _ _ _ _ _ _ _ _ _ _ _ _ _ _ _ _ _ _ _ _ _ _ hA => vc_verdict hA ) I
theorem i_vc_rowVerdict {k : Nat} {u : SX} {v : SY} (I : i_Rel k u v) (hk : k + 4 ≤ 2051) (v1 : Int32) : wpX_rowVerdict (fun r => wpY_rowVerdict (fun r' v' => r' = r ∧ i_Rel (k + 4) u v') v v1) u v1 :=
  zz_el (P := fun u v => wpX_rowVerdict (fun r => wpY_rowVerdict (fun r' v' => r' = r ∧ i_Rel (k + 4) u v') v v1) u v1) (fun _ _ _ _ _ _ _ _ _ _ _ _ _ _ _ _ _ _ _ _ _ _ _ _ _ _ _ _ _ _ _ _ _ _ _ _ _ _ _ _ _ _ _ _ _ _ _ _ _ _ _ _ _ _ _ _ _ _ _ _ _ _ _ _ _ _ _ _ _ _ _ _ hA => vc_rowVerdict hA v1) I
theorem i_vc_nodeVerdict {k : Nat} {u : SX} {v : SY} (I : i_Rel k u v) (hk : k + 4 ≤ 2051) (v1 : Int32) : wpX_nodeVerdict (fun r => wpY_nodeVerdict (fun r' v' => r' = r ∧ i_Rel (k + 4) u v') v v1) u v1 :=
  zz_el (P := fun u v => wpX_nodeVerdict (fun r => wpY_nodeVerdict (fun r' v' => r' = r ∧ i_Rel (k + 4) u v') v v1) u v1) (fun _ _ _ _ _ _ _ _ _ _ _ _ _ _ _ _ _ _ _ _ _ _ _ _ _ _ _ _ _ _ _ _ _ _ _ _ _ _ _ _ _ _ _ _ _ _ _ _ _ _ _ _ _ _ _ _ _ _ _ _ _ _ _ _ _ _ _ _ _ _ _ _ hA => vc_nodeVerdict hA v1) I
theorem i_vc_setHead {k : Nat} {u : SX} {v : SY} (I : i_Rel k u v) (hk : k + 4 ≤ 2051) (v1 : Int32) (v2 : Int32) : wpX_setHead (fun r u' => wpY_setHead (fun r' v' => r' = r ∧ i_Rel (k + 4) u' v') v v1 v2) u v1 v2 :=
  zz_el (P := fun u v => wpX_setHead (fun r u' => wpY_setHead (fun r' v' => r' = r ∧ i_Rel (k + 4) u' v') v v1 v2) u v1 v2) (fun _ _ _ _ _ _ _ _ _ _ _ _ _ _ _ _ _ _ _ _ _ _ _ _ _ _ _ _ _ _ _ _ _ _ _ _ _ _ _ _ _ _ _ _ _ _ _ _ _ _ _ _ _ _ _ _ _ _ _ _ _ _ _ _ _ _ _ _ _ _ _ _ hA => vc_setHead hA v1 v2) I
theorem i_vc_headAt {k : Nat} {u : SX} {v : SY} (I : i_Rel k u v) (hk : k + 4 ≤ 2051) (v1 : Int32) : wpX_headAt (fun r => wpY_headAt (fun r' => r' = r ∧ i_Rel (k + 4) u v) v v1) u v1 :=
  zz_el (P := fun u v => wpX_headAt (fun r => wpY_headAt (fun r' => r' = r ∧ i_Rel (k + 4) u v) v v1) u v1) (fun _ _ _ _ _ _ _ _ _ _ _ _ _ _ _ _ _ _ _ _ _ _ _ _ _ _ _ _ _ _ _ _ _ _ _ _ _ _ _ _ _ _ _ _ _ _ _ _ _ _ _ _ _ _ _ _ _ _ _ _ _ _ _ _ _ _ _ _ _ _ _ _ hA => vc_headAt hA v1) I
theorem i_vc_typeAt {k : Nat} {u : SX} {v : SY} (I : i_Rel k u v) (hk : k + 4 ≤ 2051) (v1 : Int32) : wpX_typeAt (fun r => wpY_typeAt (fun r' => r' = r ∧ i_Rel (k + 4) u v) v v1) u v1 :=
  zz_el (P := fun u v => wpX_typeAt (fun r => wpY_typeAt (fun r' => r' = r ∧ i_Rel (k + 4) u v) v v1) u v1) (fun _ _ _ _ _ _ _ _ _ _ _ _ _ _ _ _ _ _ _ _ _ _ _ _ _ _ _ _ _ _ _ _ _ _ _ _ _ _ _ _ _ _ _ _ _ _ _ _ _ _ _ _ _ _ _ _ _ _ _ _ _ _ _ _ _ _ _ _ _ _ _ _ hA => vc_typeAt hA v1) I
theorem i_vc_run {k : Nat} {u : SX} {v : SY} (I : i_Rel k u v) (hk : k + 4 ≤ 2051) : wpX_run (fun r u' => wpY_run (fun r' v' => r' = r ∧ i_Rel (k + 4) u' v') v) u :=
  zz_el (P := fun u v => wpX_run (fun r u' => wpY_run (fun r' v' => r' = r ∧ i_Rel (k + 4) u' v') v) u) (fun _ _ _ _ _ _ _ _ _ _ _ _ _ _ _ _ _ _ _ _ _ _ _ _ _ _ _ _ _ _ _ _ _ _ _ _ _ _ _ _ _ _ _ _ _ _ _ _ _ _ _ _ _ _ _ _ _ _ _ _ _ _ _ _ _ _ _ _ _ _ _ _ hA => vc_run hA ) I
theorem i_vc_binding {k : Nat} {u : SX} {v : SY} (I : i_Rel k u v) (hk : k + 4 ≤ 2051) (v1 : Int32) : wpX_binding (fun r => wpY_binding (fun r' => r' = r ∧ i_Rel (k + 4) u v) v v1) u v1 :=
  zz_el (P := fun u v => wpX_binding (fun r => wpY_binding (fun r' => r' = r ∧ i_Rel (k + 4) u v) v v1) u v1) (fun _ _ _ _ _ _ _ _ _ _ _ _ _ _ _ _ _ _ _ _ _ _ _ _ _ _ _ _ _ _ _ _ _ _ _ _ _ _ _ _ _ _ _ _ _ _ _ _ _ _ _ _ _ _ _ _ _ _ _ _ _ _ _ _ _ _ _ _ _ _ _ _ hA => vc_binding hA v1) I
theorem i_vc_rowMatches {k : Nat} {u : SX} {v : SY} (I : i_Rel k u v) (hk : k + 4 ≤ 2051) (v1 : Int32) : wpX_rowMatches (fun r => wpY_rowMatches (fun r' v' => r' = r ∧ i_Rel (k + 4) u v') v v1) u v1 :=
  zz_el (P := fun u v => wpX_rowMatches (fun r => wpY_rowMatches (fun r' v' => r' = r ∧ i_Rel (k + 4) u v') v v1) u v1) (fun _ _ _ _ _ _ _ _ _ _ _ _ _ _ _ _ _ _ _ _ _ _ _ _ _ _ _ _ _ _ _ _ _ _ _ _ _ _ _ _ _ _ _ _ _ _ _ _ _ _ _ _ _ _ _ _ _ _ _ _ _ _ _ _ _ _ _ _ _ _ _ _ hA => vc_rowMatches hA v1) I
theorem i_vc_loadMissing {k : Nat} {u : SX} {v : SY} (I : i_Rel k u v) (hk : k + 4 ≤ 2051) : wpX_loadMissing (fun r u' => wpY_loadMissing (fun r' v' => r' = r ∧ i_Rel (k + 4) u' v') v) u :=
  zz_el (P := fun u v => wpX_loadMissing (fun r u' => wpY_loadMissing (fun r' v' => r' = r ∧ i_Rel (k + 4) u' v') v) u) (fun _ _ _ _ _ _ _ _ _ _ _ _ _ _ _ _ _ _ _ _ _ _ _ _ _ _ _ _ _ _ _ _ _ _ _ _ _ _ _ _ _ _ _ _ _ _ _ _ _ _ _ _ _ _ _ _ _ _ _ _ _ _ _ _ _ _ _ _ _ _ _ _ hA => vc_loadMissing hA ) I
theorem i_vc_loadNode {k : Nat} {u : SX} {v : SY} (I : i_Rel k u v) (hk : k + 4 ≤ 2051) (v1 : Int32) : wpX_loadNode (fun r u' => wpY_loadNode (fun r' v' => r' = r ∧ i_Rel (k + 4) u' v') v v1) u v1 :=
  zz_el (P := fun u v => wpX_loadNode (fun r u' => wpY_loadNode (fun r' v' => r' = r ∧ i_Rel (k + 4) u' v') v v1) u v1) (fun _ _ _ _ _ _ _ _ _ _ _ _ _ _ _ _ _ _ _ _ _ _ _ _ _ _ _ _ _ _ _ _ _ _ _ _ _ _ _ _ _ _ _ _ _ _ _ _ _ _ _ _ _ _ _ _ _ _ _ _ _ _ _ _ _ _ _ _ _ _ _ _ hA => vc_loadNode hA v1) I
theorem i_vc_status {k : Nat} {u : SX} {v : SY} (I : i_Rel k u v) (hk : k + 4 ≤ 2051) (v1 : Int32) : wpX_status (fun r => wpY_status (fun r' => r' = r ∧ i_Rel (k + 4) u v) v v1) u v1 :=
  zz_el (P := fun u v => wpX_status (fun r => wpY_status (fun r' => r' = r ∧ i_Rel (k + 4) u v) v v1) u v1) (fun _ _ _ _ _ _ _ _ _ _ _ _ _ _ _ _ _ _ _ _ _ _ _ _ _ _ _ _ _ _ _ _ _ _ _ _ _ _ _ _ _ _ _ _ _ _ _ _ _ _ _ _ _ _ _ _ _ _ _ _ _ _ _ _ _ _ _ _ _ _ _ _ hA => vc_status hA v1) I
theorem i_vc_nodeInfo {k : Nat} {u : SX} {v : SY} (I : i_Rel k u v) (hk : k + 4 ≤ 2051) (v1 : Int32) (v2 : Int32) : wpX_nodeInfo (fun r => wpY_nodeInfo (fun r' => r' = r ∧ i_Rel (k + 4) u v) v v1 v2) u v1 v2 :=
  zz_el (P := fun u v => wpX_nodeInfo (fun r => wpY_nodeInfo (fun r' => r' = r ∧ i_Rel (k + 4) u v) v v1 v2) u v1 v2) (fun _ _ _ _ _ _ _ _ _ _ _ _ _ _ _ _ _ _ _ _ _ _ _ _ _ _ _ _ _ _ _ _ _ _ _ _ _ _ _ _ _ _ _ _ _ _ _ _ _ _ _ _ _ _ _ _ _ _ _ _ _ _ _ _ _ _ _ _ _ _ _ _ hA => vc_nodeInfo hA v1 v2) I
theorem i_vc_rowInfo {k : Nat} {u : SX} {v : SY} (I : i_Rel k u v) (hk : k + 4 ≤ 2051) (v1 : Int32) (v2 : Int32) : wpX_rowInfo (fun r => wpY_rowInfo (fun r' => r' = r ∧ i_Rel (k + 4) u v) v v1 v2) u v1 v2 :=
  zz_el (P := fun u v => wpX_rowInfo (fun r => wpY_rowInfo (fun r' => r' = r ∧ i_Rel (k + 4) u v) v v1 v2) u v1 v2) (fun _ _ _ _ _ _ _ _ _ _ _ _ _ _ _ _ _ _ _ _ _ _ _ _ _ _ _ _ _ _ _ _ _ _ _ _ _ _ _ _ _ _ _ _ _ _ _ _ _ _ _ _ _ _ _ _ _ _ _ _ _ _ _ _ _ _ _ _ _ _ _ _ hA => vc_rowInfo hA v1 v2) I
theorem i_vc_constructorInfo {k : Nat} {u : SX} {v : SY} (I : i_Rel k u v) (hk : k + 4 ≤ 2051) (v1 : Int32) (v2 : Int32) : wpX_constructorInfo (fun r => wpY_constructorInfo (fun r' => r' = r ∧ i_Rel (k + 4) u v) v v1 v2) u v1 v2 :=
  zz_el (P := fun u v => wpX_constructorInfo (fun r => wpY_constructorInfo (fun r' => r' = r ∧ i_Rel (k + 4) u v) v v1 v2) u v1 v2) (fun _ _ _ _ _ _ _ _ _ _ _ _ _ _ _ _ _ _ _ _ _ _ _ _ _ _ _ _ _ _ _ _ _ _ _ _ _ _ _ _ _ _ _ _ _ _ _ _ _ _ _ _ _ _ _ _ _ _ _ _ _ _ _ _ _ _ _ _ _ _ _ _ hA => vc_constructorInfo hA v1 v2) I
end
