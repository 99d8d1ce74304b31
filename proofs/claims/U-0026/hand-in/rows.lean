section
/-! pure rows to paste: stores, nI and lN arithmetic, masks, shifts, narrowing, branches by naturals (pk_le, pk_lt, pk_eq), loops (lp1 .. lp16: the measure of the state; rp1 ..: recursion), negatives. Take what you need -/
theorem pk_us {f : Nat → Int32} {k : Nat} {x : Int32} : upd f k x k = x := if_pos rfl
theorem pk_un {f : Nat → Int32} {k j : Nat} {x : Int32} (h : j ≠ k) : upd f k x j = f j := if_neg h
theorem pk_uLs {f : Nat → Int64} {k : Nat} {x : Int64} : vp_updL f k x k = x := if_pos rfl
theorem pk_uLn {f : Nat → Int64} {k j : Nat} {x : Int64} (h : j ≠ k) : vp_updL f k x j = f j := if_neg h
theorem pk_sub {a b : Nat} (h : b ≤ a) : nI a - nI b = nI (a - b) := by
  obtain ⟨c, rfl⟩ : ∃ c, a = c + b := ⟨a - b, by omega⟩
  rw [← nI_add, Int32.add_sub_cancel, Nat.add_sub_cancel]
theorem pk_m1 (n : Nat) : nI (n + 1) + (-1) = nI n := by
  rw [← nI_1, Int32.add_assoc, show (1 : Int32) + (-1) = 0 from rfl, Int32.add_zero]
theorem pk_mul (a b : Nat) : nI a * nI b = nI (a * b) := (Int32.ofNat_mul a b).symm
theorem pk_div {a d : Nat} (ha : a < 2 ^ 31) (h0 : 0 < d) (hd : d < 2 ^ 31) : nI a / nI d = nI (a / d) := by
  apply Int32.toInt_inj.mp
  rw [lg_idiv_nonneg (by rw [nI_toInt ha]; omega) (by rw [nI_toInt hd]; omega), nI_toInt ha, nI_toInt hd, nI_toInt (Nat.lt_of_le_of_lt (Nat.div_le_self a d) ha)]
  first | rfl | exact (Int.natCast_ediv _ _).symm
theorem pk_rem {a d : Nat} (ha : a < 2 ^ 31) (h0 : 0 < d) (hd : d < 2 ^ 31) : nI a - nI a / nI d * nI d = nI (a % d) := by
  rw [pk_div ha h0 hd, pk_mul, pk_sub (Nat.div_mul_le_self a d)]
  exact congrArg nI (by have := Nat.div_add_mod' a d; omega)
theorem pk_sub_toInt {a b : Nat} (ha : a < 2 ^ 30) (hb : b < 2 ^ 30) : (nI a - nI b).toInt = (a : Int) - b := by
  rw [Int32.toInt_sub, nI_toInt (by omega), nI_toInt (by omega)]
  exact Int.bmod_eq_of_le (by omega) (by omega)
theorem pk_sneg {a b : Nat} (hb : b < 2 ^ 30) (h : a < b) : nI a - nI b < 0 := by
  rw [Int32.lt_iff_toInt_lt, pk_sub_toInt (by omega) hb, show (0 : Int32).toInt = 0 from by decide]
  omega
theorem pk_ix (x : Int32) {n : Nat} (hn : n < 2 ^ 31) : x < 0 ∨ nI n ≤ x ∨ ∃ j : Nat, j < n ∧ x = nI j := by
  by_cases h : x < 0
  · exact Or.inl h
  · obtain ⟨j, hj, rfl⟩ := nI_of h
    by_cases h2 : j < n
    · exact Or.inr (Or.inr ⟨j, h2, rfl⟩)
    · exact Or.inr (Or.inl (nI_le (by omega) hj))
theorem pk_le {x y : Int32} {A B : Prop} (a b : Nat) (f : a ≤ b → A) (g : b < a → B) (hx : x = nI a := by rfl) (hy : y = nI b := by rfl) (ha : a < 2 ^ 31 := by omega) (hb : b < 2 ^ 31 := by omega) : (x ≤ y → A) ∧ (¬ x ≤ y → B) := by
  subst hx hy
  rw [nI_leI ha hb]
  exact ⟨f, fun z => g (by omega)⟩
theorem pk_lt {x y : Int32} {A B : Prop} (a b : Nat) (f : a < b → A) (g : b ≤ a → B) (hx : x = nI a := by rfl) (hy : y = nI b := by rfl) (ha : a < 2 ^ 31 := by omega) (hb : b < 2 ^ 31 := by omega) : (x < y → A) ∧ (¬ x < y → B) := by
  subst hx hy
  rw [nI_ltI ha hb]
  exact ⟨f, fun z => g (by omega)⟩
theorem pk_eq {x y : Int32} {A B : Prop} (a b : Nat) (f : a = b → A) (g : a ≠ b → B) (hx : x = nI a := by rfl) (hy : y = nI b := by rfl) (ha : a < 2 ^ 31 := by omega) (hb : b < 2 ^ 31 := by omega) : (x = y → A) ∧ (¬ x = y → B) := by
  subst hx hy
  rw [nI_eq ha hb]
  exact ⟨f, g⟩
theorem pk_in {x : Int32} (n N : Nat) (h : n < N) (hx : x = nI n := by rfl) (hN : N < 2 ^ 31 := by omega) : vp_in x N := by
  subst hx
  exact vp_in_nI h hN
theorem pk_cl {x : Int32} (n : Nat) (hx : x = nI n := by rfl) (h : n < 2 ^ 31 := by omega) : x.toNatClampNeg = n := by
  subst hx
  exact nI_clamp h
theorem pk_tn {n : Nat} (h : n < 2 ^ 32) : (nI n).toBitVec.toNat = n := Nat.mod_eq_of_lt h
theorem pk_and (x : Int32) {m : Int32} (k : Nat) (hm : m.toBitVec.toNat = 2 ^ k - 1) : x &&& m = nI (x.toBitVec.toNat % 2 ^ k) := by
  apply Int32.toBitVec_inj.mp
  apply BitVec.eq_of_toNat_eq
  rw [Int32.toBitVec_and, BitVec.toNat_and, hm, Nat.and_two_pow_sub_one_eq_mod]
  show _ = (BitVec.ofNat 32 _).toNat
  rw [BitVec.toNat_ofNat]
  exact (Nat.mod_eq_of_lt (Nat.lt_of_le_of_lt (Nat.mod_le _ _) x.toBitVec.isLt)).symm
theorem pk_andN {n : Nat} (h : n < 2 ^ 32) {m : Int32} (k : Nat) (hm : m.toBitVec.toNat = 2 ^ k - 1) : nI n &&& m = nI (n % 2 ^ k) := by
  rw [pk_and _ k hm, pk_tn h]
theorem pk_andE (x : Int32) {m : Int32} (k : Nat) (hm : m.toBitVec.toNat = 2 ^ k - 1) : ∃ j : Nat, j < 2 ^ k ∧ x &&& m = nI j := ⟨_, Nat.mod_lt _ (Nat.two_pow_pos k), pk_and x k hm⟩
theorem pk_andIn (x : Int32) {m : Int32} (k : Nat) (hm : m.toBitVec.toNat = 2 ^ k - 1) (hk : k ≤ 30) : vp_in (x &&& m) (2 ^ k) := by
  obtain ⟨j, hj, e⟩ := pk_andE x k hm
  rw [e]
  exact vp_in_nI hj (Nat.lt_of_le_of_lt (Nat.pow_le_pow_right (by decide) hk) (by decide))
theorem pk_shl (a s : Int32) (k : Nat) (hs : (s.toBitVec.smod 32).toNat = k) : (a <<< s).toBitVec.toNat = a.toBitVec.toNat * 2 ^ k % 2 ^ 32 := by
  show (a.toBitVec <<< (s.toBitVec.smod 32).toNat).toNat = _
  rw [hs, BitVec.toNat_shiftLeft, Nat.shiftLeft_eq]
theorem pk_shlN {n : Nat} (s : Int32) (k : Nat) (hs : (s.toBitVec.smod 32).toNat = k) (h : n * 2 ^ k < 2 ^ 32) : nI n <<< s = nI (n * 2 ^ k) := by
  apply Int32.toBitVec_inj.mp
  apply BitVec.eq_of_toNat_eq
  have hn : n < 2 ^ 32 := Nat.lt_of_le_of_lt (Nat.le_mul_of_pos_right n (Nat.two_pow_pos k)) h
  rw [pk_shl _ _ k hs, pk_tn hn, pk_tn h, Nat.mod_eq_of_lt h]
theorem pk_shr (a s : Int32) (k : Nat) (hs : (s.toBitVec.smod 32).toNat = k) : (a >>> s).toInt = a.toInt >>> k := by
  show (a.toBitVec.sshiftRight (s.toBitVec.smod 32).toNat).toInt = _
  rw [hs, BitVec.toInt_sshiftRight]
  rfl
theorem pk_shrN {n : Nat} (h : n < 2 ^ 31) (s : Int32) (k : Nat) (hs : (s.toBitVec.smod 32).toNat = k) : nI n >>> s = nI (n / 2 ^ k) := by
  apply Int32.toInt_inj.mp
  have h2 : n / 2 ^ k ≤ n := Nat.div_le_self _ _
  rw [pk_shr _ _ k hs, nI_toInt h, nI_toInt (by omega), Int.shiftRight_eq_div_pow]
  rfl
theorem pk_ushr (x s : Int32) (k : Nat) (hs : ((s.toUInt32 &&& Int32.toUInt32 31).toBitVec % 32).toNat = k) : (x.toUInt32 >>> (s.toUInt32 &&& Int32.toUInt32 31)).toInt32.toBitVec.toNat = x.toBitVec.toNat / 2 ^ k := by
  have e : (x.toUInt32 >>> (s.toUInt32 &&& Int32.toUInt32 31)).toInt32.toBitVec = x.toBitVec >>> k := by
    rw [← hs]
    exact UInt32.toBitVec_shiftRight _ _
  rw [e, BitVec.toNat_ushiftRight, Nat.shiftRight_eq_div_pow]
theorem pk_ushrN {n : Nat} (hn : n < 2 ^ 32) (s : Int32) (k : Nat) (hs : ((s.toUInt32 &&& Int32.toUInt32 31).toBitVec % 32).toNat = k) : ((nI n).toUInt32 >>> (s.toUInt32 &&& Int32.toUInt32 31)).toInt32 = nI (n / 2 ^ k) := by
  apply Int32.toBitVec_inj.mp
  apply BitVec.eq_of_toNat_eq
  rw [pk_ushr _ s k hs, pk_tn hn, pk_tn (Nat.lt_of_le_of_lt (Nat.div_le_self _ _) hn)]
theorem pk_nb (z : Int32) : narrow .byte (.int z.toInt8.toInt32) = .int z.toInt8.toInt32 := congrArg Value.int (by simp)
theorem pk_ns (z : Int32) : narrow .short (.int z.toInt16.toInt32) = .int z.toInt16.toInt32 := congrArg Value.int (by simp)
theorem pk_fb (r : Int32) : fits .byte (.int r.toInt8.toInt32) = true := by
  have ⟨a, b⟩ := lg_i2b_range r
  have h1 : (-128 : Int32).toInt = -128 := by decide
  have h2 : (127 : Int32).toInt = 127 := by decide
  simp only [fits, Bool.and_eq_true, decide_eq_true_eq, Int32.le_iff_toInt_le, h1, h2]
  omega
theorem pk_fs (r : Int32) : fits .short (.int r.toInt16.toInt32) = true := by
  have ⟨a, b⟩ := lg_i2s_range r
  have h1 : (-32768 : Int32).toInt = -32768 := by decide
  have h2 : (32767 : Int32).toInt = 32767 := by decide
  simp only [fits, Bool.and_eq_true, decide_eq_true_eq, Int32.le_iff_toInt_le, h1, h2]
  omega
theorem pk_charN {q : Nat} (hq : q < 65536) : narrow .char (.int (nI q)) = .int (nI q) ∧ fits .char (.int (nI q)) = true := by
  constructor
  · have e : (nI q).toUInt32.toUInt16.toUInt32.toInt32 = nI q := by
      apply Int32.toBitVec_inj.mp
      apply BitVec.eq_of_toNat_eq
      show (nI q).toUInt32.toUInt16.toUInt32.toNat = q % 2 ^ 32
      rw [UInt16.toNat_toUInt32, UInt32.toNat_toUInt16, show (nI q).toUInt32.toNat = q % 2 ^ 32 from rfl]
      omega
    exact congrArg Value.int e
  · have a : (0 : Int32) ≤ nI q := nI_pos' (by omega)
    have b : nI q ≤ 65535 := nI_le (b := 65535) (by omega) (by decide)
    show (decide ((0 : Int32) ≤ nI q) && decide (nI q ≤ 65535)) = true
    rw [decide_eq_true a, decide_eq_true b]
    rfl
theorem pk_char (x : Int32) : (x.toUInt32 % 65536).toInt32 = nI (x.toBitVec.toNat % 65536) := by
  apply Int32.toBitVec_inj.mp
  apply BitVec.eq_of_toNat_eq
  rw [pk_tn (by omega)]
  show (x.toUInt32 % 65536).toNat = _
  rw [UInt32.toNat_mod]
  rfl
theorem pk_nc (x : Int32) : narrow .char (.int (x.toUInt32 % 65536).toInt32) = .int (x.toUInt32 % 65536).toInt32 := by
  rw [pk_char]
  exact (pk_charN (Nat.mod_lt _ (by decide))).1
theorem pk_fc (x : Int32) : fits .char (.int (x.toUInt32 % 65536).toInt32) = true := by
  rw [pk_char]
  exact (pk_charN (Nat.mod_lt _ (by decide))).2
theorem pk_vb (z : Int32) : vp_nar .byte z.toInt8.toInt32 = z.toInt8.toInt32 := by rw [vp_nar_byte]; simp
theorem pk_vs (z : Int32) : vp_nar .short z.toInt16.toInt32 = z.toInt16.toInt32 := by rw [vp_nar_short]; simp
theorem pk_vc (z : Int32) : vp_nar .char (z.toUInt32 % 65536).toInt32 = (z.toUInt32 % 65536).toInt32 := Value.int.inj (pk_nc z)
theorem pk_lT {n : Nat} (h : n < 2 ^ 63) : (lN n).toInt = (n : Int) := lg_ofNat_toInt h
theorem pk_lLT {a b : Nat} (ha : a < 2 ^ 63) (hb : b < 2 ^ 63) : lN a < lN b ↔ a < b := by
  rw [Int64.lt_iff_toInt_lt, pk_lT ha, pk_lT hb]; omega
theorem pk_lLE {a b : Nat} (ha : a < 2 ^ 63) (hb : b < 2 ^ 63) : lN a ≤ lN b ↔ a ≤ b := by
  rw [Int64.le_iff_toInt_le, pk_lT ha, pk_lT hb]; omega
theorem pk_lEQ {a b : Nat} (ha : a < 2 ^ 63) (hb : b < 2 ^ 63) : lN a = lN b ↔ a = b := by
  rw [← Int64.toInt_inj, pk_lT ha, pk_lT hb]; omega
theorem pk_lOf {x : Int64} (h : ¬ x < 0) : ∃ k : Nat, k < 2 ^ 63 ∧ x = lN k := by
  rw [Int64.lt_iff_toInt_lt] at h
  have h0 : (0 : Int64).toInt = 0 := by decide
  have hx := Int64.toInt_lt x
  refine ⟨x.toInt.toNat, by omega, Int64.toInt_inj.mp ?_⟩
  rw [pk_lT (by omega)]
  omega
theorem pk_lDiv {a b : Nat} (ha : a < 2 ^ 63) (h0 : 0 < b) (hb : b < 2 ^ 63) : lN a / lN b = lN (a / b) := by
  apply Int64.toInt_inj.mp
  rw [lg_ldiv_nonneg (by rw [pk_lT ha]; omega) (by rw [pk_lT hb]; omega), pk_lT ha, pk_lT hb, pk_lT (Nat.lt_of_le_of_lt (Nat.div_le_self a b) ha)]
  rfl
theorem pk_lRem {a b : Nat} (ha : a < 2 ^ 63) (h0 : 0 < b) (hb : b < 2 ^ 63) : lN a - lN a / lN b * lN b = lN (a % b) := by
  rw [pk_lDiv ha h0 hb, lN_mul, lN_sub (Nat.div_mul_le_self a b)]
  exact congrArg lN (by have := Nat.div_add_mod' a b; omega)
theorem pk_loop {σ : Type} (W : Nat → Nat → σ → Prop) (I : Nat → σ → Prop) (e i0 : Nat) (s : σ) (hi : i0 ≤ e) (h0 : I i0 s) (hx : ∀ n s, I e s → W (n + 1) e s)
    (hs : ∀ n i s, i < e → I i s → (∀ s', I (i + 1) s' → W n (i + 1) s') → W (n + 1) i s) : ∃ n, W n i0 s :=
  ⟨e + 1, loop_i W I e hx hs (e + 1) i0 s hi (by omega) h0⟩
theorem pk_loopD {σ : Type} (W : Nat → Nat → σ → Prop) (I : Nat → σ → Prop) (hx : ∀ n s, I 0 s → W (n + 1) 0 s)
    (hs : ∀ n i s, I (i + 1) s → (∀ s', I i s' → W n i s') → W (n + 1) (i + 1) s) : ∀ (e : Nat) (s : σ), I e s → W (e + 1) e s := by
  intro e
  induction e with
  | zero => exact fun s h => hx 0 s h
  | succ e ih => exact fun s h => hs (e + 1) e s h (fun s' h' => ih s' h')
theorem lp1 {A1 : Type} (W : Nat → A1 → Prop) (I : A1 → Prop) (μ : A1 → Nat) (hs : ∀ (n : Nat) (a1 : A1), I a1 → (∀ (b1 : A1), I b1 → μ b1 < μ a1 → W n b1) → W (n + 1) a1) (a1 : A1) (h : I a1) : ∃ n, W n a1 :=
  loop_m (σ := A1) (fun n s => W n s) (fun s => I s) (fun s => μ s) (fun n s hI hk => hs n s hI (fun b1 h9 hm => hk b1 h9 hm)) a1 h
theorem lp2 {A1 A2 : Type} (W : Nat → A1 → A2 → Prop) (I : A1 → A2 → Prop) (μ : A1 → A2 → Nat) (hs : ∀ (n : Nat) (a1 : A1) (a2 : A2), I a1 a2 → (∀ (b1 : A1) (b2 : A2), I b1 b2 → μ b1 b2 < μ a1 a2 → W n b1 b2) → W (n + 1) a1 a2) (a1 : A1) (a2 : A2) (h : I a1 a2) : ∃ n, W n a1 a2 :=
  loop_m (σ := A1 × A2) (fun n s => W n s.1 s.2) (fun s => I s.1 s.2) (fun s => μ s.1 s.2) (fun n s hI hk => hs n s.1 s.2 hI (fun b1 b2 h9 hm => hk (b1, b2) h9 hm)) (a1, a2) h
theorem lp3 {A1 A2 A3 : Type} (W : Nat → A1 → A2 → A3 → Prop) (I : A1 → A2 → A3 → Prop) (μ : A1 → A2 → A3 → Nat) (hs : ∀ (n : Nat) (a1 : A1) (a2 : A2) (a3 : A3), I a1 a2 a3 → (∀ (b1 : A1) (b2 : A2) (b3 : A3), I b1 b2 b3 → μ b1 b2 b3 < μ a1 a2 a3 → W n b1 b2 b3) → W (n + 1) a1 a2 a3) (a1 : A1) (a2 : A2) (a3 : A3) (h : I a1 a2 a3) : ∃ n, W n a1 a2 a3 :=
  loop_m (σ := A1 × A2 × A3) (fun n s => W n s.1 s.2.1 s.2.2) (fun s => I s.1 s.2.1 s.2.2) (fun s => μ s.1 s.2.1 s.2.2) (fun n s hI hk => hs n s.1 s.2.1 s.2.2 hI (fun b1 b2 b3 h9 hm => hk (b1, b2, b3) h9 hm)) (a1, a2, a3) h
theorem lp4 {A1 A2 A3 A4 : Type} (W : Nat → A1 → A2 → A3 → A4 → Prop) (I : A1 → A2 → A3 → A4 → Prop) (μ : A1 → A2 → A3 → A4 → Nat) (hs : ∀ (n : Nat) (a1 : A1) (a2 : A2) (a3 : A3) (a4 : A4), I a1 a2 a3 a4 → (∀ (b1 : A1) (b2 : A2) (b3 : A3) (b4 : A4), I b1 b2 b3 b4 → μ b1 b2 b3 b4 < μ a1 a2 a3 a4 → W n b1 b2 b3 b4) → W (n + 1) a1 a2 a3 a4) (a1 : A1) (a2 : A2) (a3 : A3) (a4 : A4) (h : I a1 a2 a3 a4) : ∃ n, W n a1 a2 a3 a4 :=
  loop_m (σ := A1 × A2 × A3 × A4) (fun n s => W n s.1 s.2.1 s.2.2.1 s.2.2.2) (fun s => I s.1 s.2.1 s.2.2.1 s.2.2.2) (fun s => μ s.1 s.2.1 s.2.2.1 s.2.2.2) (fun n s hI hk => hs n s.1 s.2.1 s.2.2.1 s.2.2.2 hI (fun b1 b2 b3 b4 h9 hm => hk (b1, b2, b3, b4) h9 hm)) (a1, a2, a3, a4) h
theorem lp5 {A1 A2 A3 A4 A5 : Type} (W : Nat → A1 → A2 → A3 → A4 → A5 → Prop) (I : A1 → A2 → A3 → A4 → A5 → Prop) (μ : A1 → A2 → A3 → A4 → A5 → Nat) (hs : ∀ (n : Nat) (a1 : A1) (a2 : A2) (a3 : A3) (a4 : A4) (a5 : A5), I a1 a2 a3 a4 a5 → (∀ (b1 : A1) (b2 : A2) (b3 : A3) (b4 : A4) (b5 : A5), I b1 b2 b3 b4 b5 → μ b1 b2 b3 b4 b5 < μ a1 a2 a3 a4 a5 → W n b1 b2 b3 b4 b5) → W (n + 1) a1 a2 a3 a4 a5) (a1 : A1) (a2 : A2) (a3 : A3) (a4 : A4) (a5 : A5) (h : I a1 a2 a3 a4 a5) : ∃ n, W n a1 a2 a3 a4 a5 :=
  loop_m (σ := A1 × A2 × A3 × A4 × A5) (fun n s => W n s.1 s.2.1 s.2.2.1 s.2.2.2.1 s.2.2.2.2) (fun s => I s.1 s.2.1 s.2.2.1 s.2.2.2.1 s.2.2.2.2) (fun s => μ s.1 s.2.1 s.2.2.1 s.2.2.2.1 s.2.2.2.2) (fun n s hI hk => hs n s.1 s.2.1 s.2.2.1 s.2.2.2.1 s.2.2.2.2 hI (fun b1 b2 b3 b4 b5 h9 hm => hk (b1, b2, b3, b4, b5) h9 hm)) (a1, a2, a3, a4, a5) h
theorem lp6 {A1 A2 A3 A4 A5 A6 : Type} (W : Nat → A1 → A2 → A3 → A4 → A5 → A6 → Prop) (I : A1 → A2 → A3 → A4 → A5 → A6 → Prop) (μ : A1 → A2 → A3 → A4 → A5 → A6 → Nat) (hs : ∀ (n : Nat) (a1 : A1) (a2 : A2) (a3 : A3) (a4 : A4) (a5 : A5) (a6 : A6), I a1 a2 a3 a4 a5 a6 → (∀ (b1 : A1) (b2 : A2) (b3 : A3) (b4 : A4) (b5 : A5) (b6 : A6), I b1 b2 b3 b4 b5 b6 → μ b1 b2 b3 b4 b5 b6 < μ a1 a2 a3 a4 a5 a6 → W n b1 b2 b3 b4 b5 b6) → W (n + 1) a1 a2 a3 a4 a5 a6) (a1 : A1) (a2 : A2) (a3 : A3) (a4 : A4) (a5 : A5) (a6 : A6) (h : I a1 a2 a3 a4 a5 a6) : ∃ n, W n a1 a2 a3 a4 a5 a6 :=
  loop_m (σ := A1 × A2 × A3 × A4 × A5 × A6) (fun n s => W n s.1 s.2.1 s.2.2.1 s.2.2.2.1 s.2.2.2.2.1 s.2.2.2.2.2) (fun s => I s.1 s.2.1 s.2.2.1 s.2.2.2.1 s.2.2.2.2.1 s.2.2.2.2.2) (fun s => μ s.1 s.2.1 s.2.2.1 s.2.2.2.1 s.2.2.2.2.1 s.2.2.2.2.2) (fun n s hI hk => hs n s.1 s.2.1 s.2.2.1 s.2.2.2.1 s.2.2.2.2.1 s.2.2.2.2.2 hI (fun b1 b2 b3 b4 b5 b6 h9 hm => hk (b1, b2, b3, b4, b5, b6) h9 hm)) (a1, a2, a3, a4, a5, a6) h
theorem lp7 {A1 A2 A3 A4 A5 A6 A7 : Type} (W : Nat → A1 → A2 → A3 → A4 → A5 → A6 → A7 → Prop) (I : A1 → A2 → A3 → A4 → A5 → A6 → A7 → Prop) (μ : A1 → A2 → A3 → A4 → A5 → A6 → A7 → Nat) (hs : ∀ (n : Nat) (a1 : A1) (a2 : A2) (a3 : A3) (a4 : A4) (a5 : A5) (a6 : A6) (a7 : A7), I a1 a2 a3 a4 a5 a6 a7 → (∀ (b1 : A1) (b2 : A2) (b3 : A3) (b4 : A4) (b5 : A5) (b6 : A6) (b7 : A7), I b1 b2 b3 b4 b5 b6 b7 → μ b1 b2 b3 b4 b5 b6 b7 < μ a1 a2 a3 a4 a5 a6 a7 → W n b1 b2 b3 b4 b5 b6 b7) → W (n + 1) a1 a2 a3 a4 a5 a6 a7) (a1 : A1) (a2 : A2) (a3 : A3) (a4 : A4) (a5 : A5) (a6 : A6) (a7 : A7) (h : I a1 a2 a3 a4 a5 a6 a7) : ∃ n, W n a1 a2 a3 a4 a5 a6 a7 :=
  loop_m (σ := A1 × A2 × A3 × A4 × A5 × A6 × A7) (fun n s => W n s.1 s.2.1 s.2.2.1 s.2.2.2.1 s.2.2.2.2.1 s.2.2.2.2.2.1 s.2.2.2.2.2.2) (fun s => I s.1 s.2.1 s.2.2.1 s.2.2.2.1 s.2.2.2.2.1 s.2.2.2.2.2.1 s.2.2.2.2.2.2) (fun s => μ s.1 s.2.1 s.2.2.1 s.2.2.2.1 s.2.2.2.2.1 s.2.2.2.2.2.1 s.2.2.2.2.2.2) (fun n s hI hk => hs n s.1 s.2.1 s.2.2.1 s.2.2.2.1 s.2.2.2.2.1 s.2.2.2.2.2.1 s.2.2.2.2.2.2 hI (fun b1 b2 b3 b4 b5 b6 b7 h9 hm => hk (b1, b2, b3, b4, b5, b6, b7) h9 hm)) (a1, a2, a3, a4, a5, a6, a7) h
theorem lp8 {A1 A2 A3 A4 A5 A6 A7 A8 : Type} (W : Nat → A1 → A2 → A3 → A4 → A5 → A6 → A7 → A8 → Prop) (I : A1 → A2 → A3 → A4 → A5 → A6 → A7 → A8 → Prop) (μ : A1 → A2 → A3 → A4 → A5 → A6 → A7 → A8 → Nat) (hs : ∀ (n : Nat) (a1 : A1) (a2 : A2) (a3 : A3) (a4 : A4) (a5 : A5) (a6 : A6) (a7 : A7) (a8 : A8), I a1 a2 a3 a4 a5 a6 a7 a8 → (∀ (b1 : A1) (b2 : A2) (b3 : A3) (b4 : A4) (b5 : A5) (b6 : A6) (b7 : A7) (b8 : A8), I b1 b2 b3 b4 b5 b6 b7 b8 → μ b1 b2 b3 b4 b5 b6 b7 b8 < μ a1 a2 a3 a4 a5 a6 a7 a8 → W n b1 b2 b3 b4 b5 b6 b7 b8) → W (n + 1) a1 a2 a3 a4 a5 a6 a7 a8) (a1 : A1) (a2 : A2) (a3 : A3) (a4 : A4) (a5 : A5) (a6 : A6) (a7 : A7) (a8 : A8) (h : I a1 a2 a3 a4 a5 a6 a7 a8) : ∃ n, W n a1 a2 a3 a4 a5 a6 a7 a8 :=
  loop_m (σ := A1 × A2 × A3 × A4 × A5 × A6 × A7 × A8) (fun n s => W n s.1 s.2.1 s.2.2.1 s.2.2.2.1 s.2.2.2.2.1 s.2.2.2.2.2.1 s.2.2.2.2.2.2.1 s.2.2.2.2.2.2.2) (fun s => I s.1 s.2.1 s.2.2.1 s.2.2.2.1 s.2.2.2.2.1 s.2.2.2.2.2.1 s.2.2.2.2.2.2.1 s.2.2.2.2.2.2.2) (fun s => μ s.1 s.2.1 s.2.2.1 s.2.2.2.1 s.2.2.2.2.1 s.2.2.2.2.2.1 s.2.2.2.2.2.2.1 s.2.2.2.2.2.2.2) (fun n s hI hk => hs n s.1 s.2.1 s.2.2.1 s.2.2.2.1 s.2.2.2.2.1 s.2.2.2.2.2.1 s.2.2.2.2.2.2.1 s.2.2.2.2.2.2.2 hI (fun b1 b2 b3 b4 b5 b6 b7 b8 h9 hm => hk (b1, b2, b3, b4, b5, b6, b7, b8) h9 hm)) (a1, a2, a3, a4, a5, a6, a7, a8) h
theorem lp9 {A1 A2 A3 A4 A5 A6 A7 A8 A9 : Type} (W : Nat → A1 → A2 → A3 → A4 → A5 → A6 → A7 → A8 → A9 → Prop) (I : A1 → A2 → A3 → A4 → A5 → A6 → A7 → A8 → A9 → Prop) (μ : A1 → A2 → A3 → A4 → A5 → A6 → A7 → A8 → A9 → Nat) (hs : ∀ (n : Nat) (a1 : A1) (a2 : A2) (a3 : A3) (a4 : A4) (a5 : A5) (a6 : A6) (a7 : A7) (a8 : A8) (a9 : A9), I a1 a2 a3 a4 a5 a6 a7 a8 a9 → (∀ (b1 : A1) (b2 : A2) (b3 : A3) (b4 : A4) (b5 : A5) (b6 : A6) (b7 : A7) (b8 : A8) (b9 : A9), I b1 b2 b3 b4 b5 b6 b7 b8 b9 → μ b1 b2 b3 b4 b5 b6 b7 b8 b9 < μ a1 a2 a3 a4 a5 a6 a7 a8 a9 → W n b1 b2 b3 b4 b5 b6 b7 b8 b9) → W (n + 1) a1 a2 a3 a4 a5 a6 a7 a8 a9) (a1 : A1) (a2 : A2) (a3 : A3) (a4 : A4) (a5 : A5) (a6 : A6) (a7 : A7) (a8 : A8) (a9 : A9) (h : I a1 a2 a3 a4 a5 a6 a7 a8 a9) : ∃ n, W n a1 a2 a3 a4 a5 a6 a7 a8 a9 :=
  loop_m (σ := A1 × A2 × A3 × A4 × A5 × A6 × A7 × A8 × A9) (fun n s => W n s.1 s.2.1 s.2.2.1 s.2.2.2.1 s.2.2.2.2.1 s.2.2.2.2.2.1 s.2.2.2.2.2.2.1 s.2.2.2.2.2.2.2.1 s.2.2.2.2.2.2.2.2) (fun s => I s.1 s.2.1 s.2.2.1 s.2.2.2.1 s.2.2.2.2.1 s.2.2.2.2.2.1 s.2.2.2.2.2.2.1 s.2.2.2.2.2.2.2.1 s.2.2.2.2.2.2.2.2) (fun s => μ s.1 s.2.1 s.2.2.1 s.2.2.2.1 s.2.2.2.2.1 s.2.2.2.2.2.1 s.2.2.2.2.2.2.1 s.2.2.2.2.2.2.2.1 s.2.2.2.2.2.2.2.2) (fun n s hI hk => hs n s.1 s.2.1 s.2.2.1 s.2.2.2.1 s.2.2.2.2.1 s.2.2.2.2.2.1 s.2.2.2.2.2.2.1 s.2.2.2.2.2.2.2.1 s.2.2.2.2.2.2.2.2 hI (fun b1 b2 b3 b4 b5 b6 b7 b8 b9 h9 hm => hk (b1, b2, b3, b4, b5, b6, b7, b8, b9) h9 hm)) (a1, a2, a3, a4, a5, a6, a7, a8, a9) h
theorem lp10 {A1 A2 A3 A4 A5 A6 A7 A8 A9 A10 : Type} (W : Nat → A1 → A2 → A3 → A4 → A5 → A6 → A7 → A8 → A9 → A10 → Prop) (I : A1 → A2 → A3 → A4 → A5 → A6 → A7 → A8 → A9 → A10 → Prop) (μ : A1 → A2 → A3 → A4 → A5 → A6 → A7 → A8 → A9 → A10 → Nat) (hs : ∀ (n : Nat) (a1 : A1) (a2 : A2) (a3 : A3) (a4 : A4) (a5 : A5) (a6 : A6) (a7 : A7) (a8 : A8) (a9 : A9) (a10 : A10), I a1 a2 a3 a4 a5 a6 a7 a8 a9 a10 → (∀ (b1 : A1) (b2 : A2) (b3 : A3) (b4 : A4) (b5 : A5) (b6 : A6) (b7 : A7) (b8 : A8) (b9 : A9) (b10 : A10), I b1 b2 b3 b4 b5 b6 b7 b8 b9 b10 → μ b1 b2 b3 b4 b5 b6 b7 b8 b9 b10 < μ a1 a2 a3 a4 a5 a6 a7 a8 a9 a10 → W n b1 b2 b3 b4 b5 b6 b7 b8 b9 b10) → W (n + 1) a1 a2 a3 a4 a5 a6 a7 a8 a9 a10) (a1 : A1) (a2 : A2) (a3 : A3) (a4 : A4) (a5 : A5) (a6 : A6) (a7 : A7) (a8 : A8) (a9 : A9) (a10 : A10) (h : I a1 a2 a3 a4 a5 a6 a7 a8 a9 a10) : ∃ n, W n a1 a2 a3 a4 a5 a6 a7 a8 a9 a10 :=
  loop_m (σ := A1 × A2 × A3 × A4 × A5 × A6 × A7 × A8 × A9 × A10) (fun n s => W n s.1 s.2.1 s.2.2.1 s.2.2.2.1 s.2.2.2.2.1 s.2.2.2.2.2.1 s.2.2.2.2.2.2.1 s.2.2.2.2.2.2.2.1 s.2.2.2.2.2.2.2.2.1 s.2.2.2.2.2.2.2.2.2) (fun s => I s.1 s.2.1 s.2.2.1 s.2.2.2.1 s.2.2.2.2.1 s.2.2.2.2.2.1 s.2.2.2.2.2.2.1 s.2.2.2.2.2.2.2.1 s.2.2.2.2.2.2.2.2.1 s.2.2.2.2.2.2.2.2.2) (fun s => μ s.1 s.2.1 s.2.2.1 s.2.2.2.1 s.2.2.2.2.1 s.2.2.2.2.2.1 s.2.2.2.2.2.2.1 s.2.2.2.2.2.2.2.1 s.2.2.2.2.2.2.2.2.1 s.2.2.2.2.2.2.2.2.2) (fun n s hI hk => hs n s.1 s.2.1 s.2.2.1 s.2.2.2.1 s.2.2.2.2.1 s.2.2.2.2.2.1 s.2.2.2.2.2.2.1 s.2.2.2.2.2.2.2.1 s.2.2.2.2.2.2.2.2.1 s.2.2.2.2.2.2.2.2.2 hI (fun b1 b2 b3 b4 b5 b6 b7 b8 b9 b10 h9 hm => hk (b1, b2, b3, b4, b5, b6, b7, b8, b9, b10) h9 hm)) (a1, a2, a3, a4, a5, a6, a7, a8, a9, a10) h
theorem lp11 {A1 A2 A3 A4 A5 A6 A7 A8 A9 A10 A11 : Type} (W : Nat → A1 → A2 → A3 → A4 → A5 → A6 → A7 → A8 → A9 → A10 → A11 → Prop) (I : A1 → A2 → A3 → A4 → A5 → A6 → A7 → A8 → A9 → A10 → A11 → Prop) (μ : A1 → A2 → A3 → A4 → A5 → A6 → A7 → A8 → A9 → A10 → A11 → Nat) (hs : ∀ (n : Nat) (a1 : A1) (a2 : A2) (a3 : A3) (a4 : A4) (a5 : A5) (a6 : A6) (a7 : A7) (a8 : A8) (a9 : A9) (a10 : A10) (a11 : A11), I a1 a2 a3 a4 a5 a6 a7 a8 a9 a10 a11 → (∀ (b1 : A1) (b2 : A2) (b3 : A3) (b4 : A4) (b5 : A5) (b6 : A6) (b7 : A7) (b8 : A8) (b9 : A9) (b10 : A10) (b11 : A11), I b1 b2 b3 b4 b5 b6 b7 b8 b9 b10 b11 → μ b1 b2 b3 b4 b5 b6 b7 b8 b9 b10 b11 < μ a1 a2 a3 a4 a5 a6 a7 a8 a9 a10 a11 → W n b1 b2 b3 b4 b5 b6 b7 b8 b9 b10 b11) → W (n + 1) a1 a2 a3 a4 a5 a6 a7 a8 a9 a10 a11) (a1 : A1) (a2 : A2) (a3 : A3) (a4 : A4) (a5 : A5) (a6 : A6) (a7 : A7) (a8 : A8) (a9 : A9) (a10 : A10) (a11 : A11) (h : I a1 a2 a3 a4 a5 a6 a7 a8 a9 a10 a11) : ∃ n, W n a1 a2 a3 a4 a5 a6 a7 a8 a9 a10 a11 :=
  loop_m (σ := A1 × A2 × A3 × A4 × A5 × A6 × A7 × A8 × A9 × A10 × A11) (fun n s => W n s.1 s.2.1 s.2.2.1 s.2.2.2.1 s.2.2.2.2.1 s.2.2.2.2.2.1 s.2.2.2.2.2.2.1 s.2.2.2.2.2.2.2.1 s.2.2.2.2.2.2.2.2.1 s.2.2.2.2.2.2.2.2.2.1 s.2.2.2.2.2.2.2.2.2.2) (fun s => I s.1 s.2.1 s.2.2.1 s.2.2.2.1 s.2.2.2.2.1 s.2.2.2.2.2.1 s.2.2.2.2.2.2.1 s.2.2.2.2.2.2.2.1 s.2.2.2.2.2.2.2.2.1 s.2.2.2.2.2.2.2.2.2.1 s.2.2.2.2.2.2.2.2.2.2) (fun s => μ s.1 s.2.1 s.2.2.1 s.2.2.2.1 s.2.2.2.2.1 s.2.2.2.2.2.1 s.2.2.2.2.2.2.1 s.2.2.2.2.2.2.2.1 s.2.2.2.2.2.2.2.2.1 s.2.2.2.2.2.2.2.2.2.1 s.2.2.2.2.2.2.2.2.2.2) (fun n s hI hk => hs n s.1 s.2.1 s.2.2.1 s.2.2.2.1 s.2.2.2.2.1 s.2.2.2.2.2.1 s.2.2.2.2.2.2.1 s.2.2.2.2.2.2.2.1 s.2.2.2.2.2.2.2.2.1 s.2.2.2.2.2.2.2.2.2.1 s.2.2.2.2.2.2.2.2.2.2 hI (fun b1 b2 b3 b4 b5 b6 b7 b8 b9 b10 b11 h9 hm => hk (b1, b2, b3, b4, b5, b6, b7, b8, b9, b10, b11) h9 hm)) (a1, a2, a3, a4, a5, a6, a7, a8, a9, a10, a11) h
theorem lp12 {A1 A2 A3 A4 A5 A6 A7 A8 A9 A10 A11 A12 : Type} (W : Nat → A1 → A2 → A3 → A4 → A5 → A6 → A7 → A8 → A9 → A10 → A11 → A12 → Prop) (I : A1 → A2 → A3 → A4 → A5 → A6 → A7 → A8 → A9 → A10 → A11 → A12 → Prop) (μ : A1 → A2 → A3 → A4 → A5 → A6 → A7 → A8 → A9 → A10 → A11 → A12 → Nat) (hs : ∀ (n : Nat) (a1 : A1) (a2 : A2) (a3 : A3) (a4 : A4) (a5 : A5) (a6 : A6) (a7 : A7) (a8 : A8) (a9 : A9) (a10 : A10) (a11 : A11) (a12 : A12), I a1 a2 a3 a4 a5 a6 a7 a8 a9 a10 a11 a12 → (∀ (b1 : A1) (b2 : A2) (b3 : A3) (b4 : A4) (b5 : A5) (b6 : A6) (b7 : A7) (b8 : A8) (b9 : A9) (b10 : A10) (b11 : A11) (b12 : A12), I b1 b2 b3 b4 b5 b6 b7 b8 b9 b10 b11 b12 → μ b1 b2 b3 b4 b5 b6 b7 b8 b9 b10 b11 b12 < μ a1 a2 a3 a4 a5 a6 a7 a8 a9 a10 a11 a12 → W n b1 b2 b3 b4 b5 b6 b7 b8 b9 b10 b11 b12) → W (n + 1) a1 a2 a3 a4 a5 a6 a7 a8 a9 a10 a11 a12) (a1 : A1) (a2 : A2) (a3 : A3) (a4 : A4) (a5 : A5) (a6 : A6) (a7 : A7) (a8 : A8) (a9 : A9) (a10 : A10) (a11 : A11) (a12 : A12) (h : I a1 a2 a3 a4 a5 a6 a7 a8 a9 a10 a11 a12) : ∃ n, W n a1 a2 a3 a4 a5 a6 a7 a8 a9 a10 a11 a12 :=
  loop_m (σ := A1 × A2 × A3 × A4 × A5 × A6 × A7 × A8 × A9 × A10 × A11 × A12) (fun n s => W n s.1 s.2.1 s.2.2.1 s.2.2.2.1 s.2.2.2.2.1 s.2.2.2.2.2.1 s.2.2.2.2.2.2.1 s.2.2.2.2.2.2.2.1 s.2.2.2.2.2.2.2.2.1 s.2.2.2.2.2.2.2.2.2.1 s.2.2.2.2.2.2.2.2.2.2.1 s.2.2.2.2.2.2.2.2.2.2.2) (fun s => I s.1 s.2.1 s.2.2.1 s.2.2.2.1 s.2.2.2.2.1 s.2.2.2.2.2.1 s.2.2.2.2.2.2.1 s.2.2.2.2.2.2.2.1 s.2.2.2.2.2.2.2.2.1 s.2.2.2.2.2.2.2.2.2.1 s.2.2.2.2.2.2.2.2.2.2.1 s.2.2.2.2.2.2.2.2.2.2.2) (fun s => μ s.1 s.2.1 s.2.2.1 s.2.2.2.1 s.2.2.2.2.1 s.2.2.2.2.2.1 s.2.2.2.2.2.2.1 s.2.2.2.2.2.2.2.1 s.2.2.2.2.2.2.2.2.1 s.2.2.2.2.2.2.2.2.2.1 s.2.2.2.2.2.2.2.2.2.2.1 s.2.2.2.2.2.2.2.2.2.2.2) (fun n s hI hk => hs n s.1 s.2.1 s.2.2.1 s.2.2.2.1 s.2.2.2.2.1 s.2.2.2.2.2.1 s.2.2.2.2.2.2.1 s.2.2.2.2.2.2.2.1 s.2.2.2.2.2.2.2.2.1 s.2.2.2.2.2.2.2.2.2.1 s.2.2.2.2.2.2.2.2.2.2.1 s.2.2.2.2.2.2.2.2.2.2.2 hI (fun b1 b2 b3 b4 b5 b6 b7 b8 b9 b10 b11 b12 h9 hm => hk (b1, b2, b3, b4, b5, b6, b7, b8, b9, b10, b11, b12) h9 hm)) (a1, a2, a3, a4, a5, a6, a7, a8, a9, a10, a11, a12) h
theorem lp13 {A1 A2 A3 A4 A5 A6 A7 A8 A9 A10 A11 A12 A13 : Type} (W : Nat → A1 → A2 → A3 → A4 → A5 → A6 → A7 → A8 → A9 → A10 → A11 → A12 → A13 → Prop) (I : A1 → A2 → A3 → A4 → A5 → A6 → A7 → A8 → A9 → A10 → A11 → A12 → A13 → Prop) (μ : A1 → A2 → A3 → A4 → A5 → A6 → A7 → A8 → A9 → A10 → A11 → A12 → A13 → Nat) (hs : ∀ (n : Nat) (a1 : A1) (a2 : A2) (a3 : A3) (a4 : A4) (a5 : A5) (a6 : A6) (a7 : A7) (a8 : A8) (a9 : A9) (a10 : A10) (a11 : A11) (a12 : A12) (a13 : A13), I a1 a2 a3 a4 a5 a6 a7 a8 a9 a10 a11 a12 a13 → (∀ (b1 : A1) (b2 : A2) (b3 : A3) (b4 : A4) (b5 : A5) (b6 : A6) (b7 : A7) (b8 : A8) (b9 : A9) (b10 : A10) (b11 : A11) (b12 : A12) (b13 : A13), I b1 b2 b3 b4 b5 b6 b7 b8 b9 b10 b11 b12 b13 → μ b1 b2 b3 b4 b5 b6 b7 b8 b9 b10 b11 b12 b13 < μ a1 a2 a3 a4 a5 a6 a7 a8 a9 a10 a11 a12 a13 → W n b1 b2 b3 b4 b5 b6 b7 b8 b9 b10 b11 b12 b13) → W (n + 1) a1 a2 a3 a4 a5 a6 a7 a8 a9 a10 a11 a12 a13) (a1 : A1) (a2 : A2) (a3 : A3) (a4 : A4) (a5 : A5) (a6 : A6) (a7 : A7) (a8 : A8) (a9 : A9) (a10 : A10) (a11 : A11) (a12 : A12) (a13 : A13) (h : I a1 a2 a3 a4 a5 a6 a7 a8 a9 a10 a11 a12 a13) : ∃ n, W n a1 a2 a3 a4 a5 a6 a7 a8 a9 a10 a11 a12 a13 :=
  loop_m (σ := A1 × A2 × A3 × A4 × A5 × A6 × A7 × A8 × A9 × A10 × A11 × A12 × A13) (fun n s => W n s.1 s.2.1 s.2.2.1 s.2.2.2.1 s.2.2.2.2.1 s.2.2.2.2.2.1 s.2.2.2.2.2.2.1 s.2.2.2.2.2.2.2.1 s.2.2.2.2.2.2.2.2.1 s.2.2.2.2.2.2.2.2.2.1 s.2.2.2.2.2.2.2.2.2.2.1 s.2.2.2.2.2.2.2.2.2.2.2.1 s.2.2.2.2.2.2.2.2.2.2.2.2) (fun s => I s.1 s.2.1 s.2.2.1 s.2.2.2.1 s.2.2.2.2.1 s.2.2.2.2.2.1 s.2.2.2.2.2.2.1 s.2.2.2.2.2.2.2.1 s.2.2.2.2.2.2.2.2.1 s.2.2.2.2.2.2.2.2.2.1 s.2.2.2.2.2.2.2.2.2.2.1 s.2.2.2.2.2.2.2.2.2.2.2.1 s.2.2.2.2.2.2.2.2.2.2.2.2) (fun s => μ s.1 s.2.1 s.2.2.1 s.2.2.2.1 s.2.2.2.2.1 s.2.2.2.2.2.1 s.2.2.2.2.2.2.1 s.2.2.2.2.2.2.2.1 s.2.2.2.2.2.2.2.2.1 s.2.2.2.2.2.2.2.2.2.1 s.2.2.2.2.2.2.2.2.2.2.1 s.2.2.2.2.2.2.2.2.2.2.2.1 s.2.2.2.2.2.2.2.2.2.2.2.2) (fun n s hI hk => hs n s.1 s.2.1 s.2.2.1 s.2.2.2.1 s.2.2.2.2.1 s.2.2.2.2.2.1 s.2.2.2.2.2.2.1 s.2.2.2.2.2.2.2.1 s.2.2.2.2.2.2.2.2.1 s.2.2.2.2.2.2.2.2.2.1 s.2.2.2.2.2.2.2.2.2.2.1 s.2.2.2.2.2.2.2.2.2.2.2.1 s.2.2.2.2.2.2.2.2.2.2.2.2 hI (fun b1 b2 b3 b4 b5 b6 b7 b8 b9 b10 b11 b12 b13 h9 hm => hk (b1, b2, b3, b4, b5, b6, b7, b8, b9, b10, b11, b12, b13) h9 hm)) (a1, a2, a3, a4, a5, a6, a7, a8, a9, a10, a11, a12, a13) h
theorem lp14 {A1 A2 A3 A4 A5 A6 A7 A8 A9 A10 A11 A12 A13 A14 : Type} (W : Nat → A1 → A2 → A3 → A4 → A5 → A6 → A7 → A8 → A9 → A10 → A11 → A12 → A13 → A14 → Prop) (I : A1 → A2 → A3 → A4 → A5 → A6 → A7 → A8 → A9 → A10 → A11 → A12 → A13 → A14 → Prop) (μ : A1 → A2 → A3 → A4 → A5 → A6 → A7 → A8 → A9 → A10 → A11 → A12 → A13 → A14 → Nat) (hs : ∀ (n : Nat) (a1 : A1) (a2 : A2) (a3 : A3) (a4 : A4) (a5 : A5) (a6 : A6) (a7 : A7) (a8 : A8) (a9 : A9) (a10 : A10) (a11 : A11) (a12 : A12) (a13 : A13) (a14 : A14), I a1 a2 a3 a4 a5 a6 a7 a8 a9 a10 a11 a12 a13 a14 → (∀ (b1 : A1) (b2 : A2) (b3 : A3) (b4 : A4) (b5 : A5) (b6 : A6) (b7 : A7) (b8 : A8) (b9 : A9) (b10 : A10) (b11 : A11) (b12 : A12) (b13 : A13) (b14 : A14), I b1 b2 b3 b4 b5 b6 b7 b8 b9 b10 b11 b12 b13 b14 → μ b1 b2 b3 b4 b5 b6 b7 b8 b9 b10 b11 b12 b13 b14 < μ a1 a2 a3 a4 a5 a6 a7 a8 a9 a10 a11 a12 a13 a14 → W n b1 b2 b3 b4 b5 b6 b7 b8 b9 b10 b11 b12 b13 b14) → W (n + 1) a1 a2 a3 a4 a5 a6 a7 a8 a9 a10 a11 a12 a13 a14) (a1 : A1) (a2 : A2) (a3 : A3) (a4 : A4) (a5 : A5) (a6 : A6) (a7 : A7) (a8 : A8) (a9 : A9) (a10 : A10) (a11 : A11) (a12 : A12) (a13 : A13) (a14 : A14) (h : I a1 a2 a3 a4 a5 a6 a7 a8 a9 a10 a11 a12 a13 a14) : ∃ n, W n a1 a2 a3 a4 a5 a6 a7 a8 a9 a10 a11 a12 a13 a14 :=
  loop_m (σ := A1 × A2 × A3 × A4 × A5 × A6 × A7 × A8 × A9 × A10 × A11 × A12 × A13 × A14) (fun n s => W n s.1 s.2.1 s.2.2.1 s.2.2.2.1 s.2.2.2.2.1 s.2.2.2.2.2.1 s.2.2.2.2.2.2.1 s.2.2.2.2.2.2.2.1 s.2.2.2.2.2.2.2.2.1 s.2.2.2.2.2.2.2.2.2.1 s.2.2.2.2.2.2.2.2.2.2.1 s.2.2.2.2.2.2.2.2.2.2.2.1 s.2.2.2.2.2.2.2.2.2.2.2.2.1 s.2.2.2.2.2.2.2.2.2.2.2.2.2) (fun s => I s.1 s.2.1 s.2.2.1 s.2.2.2.1 s.2.2.2.2.1 s.2.2.2.2.2.1 s.2.2.2.2.2.2.1 s.2.2.2.2.2.2.2.1 s.2.2.2.2.2.2.2.2.1 s.2.2.2.2.2.2.2.2.2.1 s.2.2.2.2.2.2.2.2.2.2.1 s.2.2.2.2.2.2.2.2.2.2.2.1 s.2.2.2.2.2.2.2.2.2.2.2.2.1 s.2.2.2.2.2.2.2.2.2.2.2.2.2) (fun s => μ s.1 s.2.1 s.2.2.1 s.2.2.2.1 s.2.2.2.2.1 s.2.2.2.2.2.1 s.2.2.2.2.2.2.1 s.2.2.2.2.2.2.2.1 s.2.2.2.2.2.2.2.2.1 s.2.2.2.2.2.2.2.2.2.1 s.2.2.2.2.2.2.2.2.2.2.1 s.2.2.2.2.2.2.2.2.2.2.2.1 s.2.2.2.2.2.2.2.2.2.2.2.2.1 s.2.2.2.2.2.2.2.2.2.2.2.2.2) (fun n s hI hk => hs n s.1 s.2.1 s.2.2.1 s.2.2.2.1 s.2.2.2.2.1 s.2.2.2.2.2.1 s.2.2.2.2.2.2.1 s.2.2.2.2.2.2.2.1 s.2.2.2.2.2.2.2.2.1 s.2.2.2.2.2.2.2.2.2.1 s.2.2.2.2.2.2.2.2.2.2.1 s.2.2.2.2.2.2.2.2.2.2.2.1 s.2.2.2.2.2.2.2.2.2.2.2.2.1 s.2.2.2.2.2.2.2.2.2.2.2.2.2 hI (fun b1 b2 b3 b4 b5 b6 b7 b8 b9 b10 b11 b12 b13 b14 h9 hm => hk (b1, b2, b3, b4, b5, b6, b7, b8, b9, b10, b11, b12, b13, b14) h9 hm)) (a1, a2, a3, a4, a5, a6, a7, a8, a9, a10, a11, a12, a13, a14) h
theorem lp15 {A1 A2 A3 A4 A5 A6 A7 A8 A9 A10 A11 A12 A13 A14 A15 : Type} (W : Nat → A1 → A2 → A3 → A4 → A5 → A6 → A7 → A8 → A9 → A10 → A11 → A12 → A13 → A14 → A15 → Prop) (I : A1 → A2 → A3 → A4 → A5 → A6 → A7 → A8 → A9 → A10 → A11 → A12 → A13 → A14 → A15 → Prop) (μ : A1 → A2 → A3 → A4 → A5 → A6 → A7 → A8 → A9 → A10 → A11 → A12 → A13 → A14 → A15 → Nat) (hs : ∀ (n : Nat) (a1 : A1) (a2 : A2) (a3 : A3) (a4 : A4) (a5 : A5) (a6 : A6) (a7 : A7) (a8 : A8) (a9 : A9) (a10 : A10) (a11 : A11) (a12 : A12) (a13 : A13) (a14 : A14) (a15 : A15), I a1 a2 a3 a4 a5 a6 a7 a8 a9 a10 a11 a12 a13 a14 a15 → (∀ (b1 : A1) (b2 : A2) (b3 : A3) (b4 : A4) (b5 : A5) (b6 : A6) (b7 : A7) (b8 : A8) (b9 : A9) (b10 : A10) (b11 : A11) (b12 : A12) (b13 : A13) (b14 : A14) (b15 : A15), I b1 b2 b3 b4 b5 b6 b7 b8 b9 b10 b11 b12 b13 b14 b15 → μ b1 b2 b3 b4 b5 b6 b7 b8 b9 b10 b11 b12 b13 b14 b15 < μ a1 a2 a3 a4 a5 a6 a7 a8 a9 a10 a11 a12 a13 a14 a15 → W n b1 b2 b3 b4 b5 b6 b7 b8 b9 b10 b11 b12 b13 b14 b15) → W (n + 1) a1 a2 a3 a4 a5 a6 a7 a8 a9 a10 a11 a12 a13 a14 a15) (a1 : A1) (a2 : A2) (a3 : A3) (a4 : A4) (a5 : A5) (a6 : A6) (a7 : A7) (a8 : A8) (a9 : A9) (a10 : A10) (a11 : A11) (a12 : A12) (a13 : A13) (a14 : A14) (a15 : A15) (h : I a1 a2 a3 a4 a5 a6 a7 a8 a9 a10 a11 a12 a13 a14 a15) : ∃ n, W n a1 a2 a3 a4 a5 a6 a7 a8 a9 a10 a11 a12 a13 a14 a15 :=
  loop_m (σ := A1 × A2 × A3 × A4 × A5 × A6 × A7 × A8 × A9 × A10 × A11 × A12 × A13 × A14 × A15) (fun n s => W n s.1 s.2.1 s.2.2.1 s.2.2.2.1 s.2.2.2.2.1 s.2.2.2.2.2.1 s.2.2.2.2.2.2.1 s.2.2.2.2.2.2.2.1 s.2.2.2.2.2.2.2.2.1 s.2.2.2.2.2.2.2.2.2.1 s.2.2.2.2.2.2.2.2.2.2.1 s.2.2.2.2.2.2.2.2.2.2.2.1 s.2.2.2.2.2.2.2.2.2.2.2.2.1 s.2.2.2.2.2.2.2.2.2.2.2.2.2.1 s.2.2.2.2.2.2.2.2.2.2.2.2.2.2) (fun s => I s.1 s.2.1 s.2.2.1 s.2.2.2.1 s.2.2.2.2.1 s.2.2.2.2.2.1 s.2.2.2.2.2.2.1 s.2.2.2.2.2.2.2.1 s.2.2.2.2.2.2.2.2.1 s.2.2.2.2.2.2.2.2.2.1 s.2.2.2.2.2.2.2.2.2.2.1 s.2.2.2.2.2.2.2.2.2.2.2.1 s.2.2.2.2.2.2.2.2.2.2.2.2.1 s.2.2.2.2.2.2.2.2.2.2.2.2.2.1 s.2.2.2.2.2.2.2.2.2.2.2.2.2.2) (fun s => μ s.1 s.2.1 s.2.2.1 s.2.2.2.1 s.2.2.2.2.1 s.2.2.2.2.2.1 s.2.2.2.2.2.2.1 s.2.2.2.2.2.2.2.1 s.2.2.2.2.2.2.2.2.1 s.2.2.2.2.2.2.2.2.2.1 s.2.2.2.2.2.2.2.2.2.2.1 s.2.2.2.2.2.2.2.2.2.2.2.1 s.2.2.2.2.2.2.2.2.2.2.2.2.1 s.2.2.2.2.2.2.2.2.2.2.2.2.2.1 s.2.2.2.2.2.2.2.2.2.2.2.2.2.2) (fun n s hI hk => hs n s.1 s.2.1 s.2.2.1 s.2.2.2.1 s.2.2.2.2.1 s.2.2.2.2.2.1 s.2.2.2.2.2.2.1 s.2.2.2.2.2.2.2.1 s.2.2.2.2.2.2.2.2.1 s.2.2.2.2.2.2.2.2.2.1 s.2.2.2.2.2.2.2.2.2.2.1 s.2.2.2.2.2.2.2.2.2.2.2.1 s.2.2.2.2.2.2.2.2.2.2.2.2.1 s.2.2.2.2.2.2.2.2.2.2.2.2.2.1 s.2.2.2.2.2.2.2.2.2.2.2.2.2.2 hI (fun b1 b2 b3 b4 b5 b6 b7 b8 b9 b10 b11 b12 b13 b14 b15 h9 hm => hk (b1, b2, b3, b4, b5, b6, b7, b8, b9, b10, b11, b12, b13, b14, b15) h9 hm)) (a1, a2, a3, a4, a5, a6, a7, a8, a9, a10, a11, a12, a13, a14, a15) h
theorem lp16 {A1 A2 A3 A4 A5 A6 A7 A8 A9 A10 A11 A12 A13 A14 A15 A16 : Type} (W : Nat → A1 → A2 → A3 → A4 → A5 → A6 → A7 → A8 → A9 → A10 → A11 → A12 → A13 → A14 → A15 → A16 → Prop) (I : A1 → A2 → A3 → A4 → A5 → A6 → A7 → A8 → A9 → A10 → A11 → A12 → A13 → A14 → A15 → A16 → Prop) (μ : A1 → A2 → A3 → A4 → A5 → A6 → A7 → A8 → A9 → A10 → A11 → A12 → A13 → A14 → A15 → A16 → Nat) (hs : ∀ (n : Nat) (a1 : A1) (a2 : A2) (a3 : A3) (a4 : A4) (a5 : A5) (a6 : A6) (a7 : A7) (a8 : A8) (a9 : A9) (a10 : A10) (a11 : A11) (a12 : A12) (a13 : A13) (a14 : A14) (a15 : A15) (a16 : A16), I a1 a2 a3 a4 a5 a6 a7 a8 a9 a10 a11 a12 a13 a14 a15 a16 → (∀ (b1 : A1) (b2 : A2) (b3 : A3) (b4 : A4) (b5 : A5) (b6 : A6) (b7 : A7) (b8 : A8) (b9 : A9) (b10 : A10) (b11 : A11) (b12 : A12) (b13 : A13) (b14 : A14) (b15 : A15) (b16 : A16), I b1 b2 b3 b4 b5 b6 b7 b8 b9 b10 b11 b12 b13 b14 b15 b16 → μ b1 b2 b3 b4 b5 b6 b7 b8 b9 b10 b11 b12 b13 b14 b15 b16 < μ a1 a2 a3 a4 a5 a6 a7 a8 a9 a10 a11 a12 a13 a14 a15 a16 → W n b1 b2 b3 b4 b5 b6 b7 b8 b9 b10 b11 b12 b13 b14 b15 b16) → W (n + 1) a1 a2 a3 a4 a5 a6 a7 a8 a9 a10 a11 a12 a13 a14 a15 a16) (a1 : A1) (a2 : A2) (a3 : A3) (a4 : A4) (a5 : A5) (a6 : A6) (a7 : A7) (a8 : A8) (a9 : A9) (a10 : A10) (a11 : A11) (a12 : A12) (a13 : A13) (a14 : A14) (a15 : A15) (a16 : A16) (h : I a1 a2 a3 a4 a5 a6 a7 a8 a9 a10 a11 a12 a13 a14 a15 a16) : ∃ n, W n a1 a2 a3 a4 a5 a6 a7 a8 a9 a10 a11 a12 a13 a14 a15 a16 :=
  loop_m (σ := A1 × A2 × A3 × A4 × A5 × A6 × A7 × A8 × A9 × A10 × A11 × A12 × A13 × A14 × A15 × A16) (fun n s => W n s.1 s.2.1 s.2.2.1 s.2.2.2.1 s.2.2.2.2.1 s.2.2.2.2.2.1 s.2.2.2.2.2.2.1 s.2.2.2.2.2.2.2.1 s.2.2.2.2.2.2.2.2.1 s.2.2.2.2.2.2.2.2.2.1 s.2.2.2.2.2.2.2.2.2.2.1 s.2.2.2.2.2.2.2.2.2.2.2.1 s.2.2.2.2.2.2.2.2.2.2.2.2.1 s.2.2.2.2.2.2.2.2.2.2.2.2.2.1 s.2.2.2.2.2.2.2.2.2.2.2.2.2.2.1 s.2.2.2.2.2.2.2.2.2.2.2.2.2.2.2) (fun s => I s.1 s.2.1 s.2.2.1 s.2.2.2.1 s.2.2.2.2.1 s.2.2.2.2.2.1 s.2.2.2.2.2.2.1 s.2.2.2.2.2.2.2.1 s.2.2.2.2.2.2.2.2.1 s.2.2.2.2.2.2.2.2.2.1 s.2.2.2.2.2.2.2.2.2.2.1 s.2.2.2.2.2.2.2.2.2.2.2.1 s.2.2.2.2.2.2.2.2.2.2.2.2.1 s.2.2.2.2.2.2.2.2.2.2.2.2.2.1 s.2.2.2.2.2.2.2.2.2.2.2.2.2.2.1 s.2.2.2.2.2.2.2.2.2.2.2.2.2.2.2) (fun s => μ s.1 s.2.1 s.2.2.1 s.2.2.2.1 s.2.2.2.2.1 s.2.2.2.2.2.1 s.2.2.2.2.2.2.1 s.2.2.2.2.2.2.2.1 s.2.2.2.2.2.2.2.2.1 s.2.2.2.2.2.2.2.2.2.1 s.2.2.2.2.2.2.2.2.2.2.1 s.2.2.2.2.2.2.2.2.2.2.2.1 s.2.2.2.2.2.2.2.2.2.2.2.2.1 s.2.2.2.2.2.2.2.2.2.2.2.2.2.1 s.2.2.2.2.2.2.2.2.2.2.2.2.2.2.1 s.2.2.2.2.2.2.2.2.2.2.2.2.2.2.2) (fun n s hI hk => hs n s.1 s.2.1 s.2.2.1 s.2.2.2.1 s.2.2.2.2.1 s.2.2.2.2.2.1 s.2.2.2.2.2.2.1 s.2.2.2.2.2.2.2.1 s.2.2.2.2.2.2.2.2.1 s.2.2.2.2.2.2.2.2.2.1 s.2.2.2.2.2.2.2.2.2.2.1 s.2.2.2.2.2.2.2.2.2.2.2.1 s.2.2.2.2.2.2.2.2.2.2.2.2.1 s.2.2.2.2.2.2.2.2.2.2.2.2.2.1 s.2.2.2.2.2.2.2.2.2.2.2.2.2.2.1 s.2.2.2.2.2.2.2.2.2.2.2.2.2.2.2 hI (fun b1 b2 b3 b4 b5 b6 b7 b8 b9 b10 b11 b12 b13 b14 b15 b16 h9 hm => hk (b1, b2, b3, b4, b5, b6, b7, b8, b9, b10, b11, b12, b13, b14, b15, b16) h9 hm)) (a1, a2, a3, a4, a5, a6, a7, a8, a9, a10, a11, a12, a13, a14, a15, a16) h
theorem pk_least (P : Nat → Prop) (h : ∃ k, P k) : ∃ k, P k ∧ ∀ j, j < k → ¬ P j := by
  obtain ⟨k, hk⟩ := h
  induction k using Nat.strongRecOn with
  | ind k ih =>
    by_cases e : ∃ j, j < k ∧ P j
    · obtain ⟨j, hj, pj⟩ := e
      exact ih j hj pj
    · exact ⟨k, hk, fun j hj pj => e ⟨j, hj, pj⟩⟩
theorem rp1 {ρ A1 : Type} (W : Nat → (ρ → Prop) → A1 → Prop) (ok : A1 → Prop) (μ : A1 → Nat) (val : A1 → ρ)
    (hs : ∀ (d : Nat) (post : ρ → Prop) (a1 : A1), ok a1 → post (val a1) → (∀ (post' : ρ → Prop) (b1 : A1), ok b1 → μ b1 < μ a1 → post' (val b1) → W d post' b1) → W (d + 1) post a1) :
    ∀ (d : Nat) (post : ρ → Prop) (a1 : A1), ok a1 → μ a1 < d → post (val a1) → W d post a1 := by
  intro d
  induction d with
  | zero => intro post a1 _ h; omega
  | succ d ih =>
    intro post a1 ho hm hp
    exact hs d post a1 ho hp (fun post' b1 ho' hm' hp' => ih post' b1 ho' (by omega) hp')
theorem rp2 {ρ A1 A2 : Type} (W : Nat → (ρ → Prop) → A1 → A2 → Prop) (ok : A1 → A2 → Prop) (μ : A1 → A2 → Nat) (val : A1 → A2 → ρ)
    (hs : ∀ (d : Nat) (post : ρ → Prop) (a1 : A1) (a2 : A2), ok a1 a2 → post (val a1 a2) → (∀ (post' : ρ → Prop) (b1 : A1) (b2 : A2), ok b1 b2 → μ b1 b2 < μ a1 a2 → post' (val b1 b2) → W d post' b1 b2) → W (d + 1) post a1 a2) :
    ∀ (d : Nat) (post : ρ → Prop) (a1 : A1) (a2 : A2), ok a1 a2 → μ a1 a2 < d → post (val a1 a2) → W d post a1 a2 := by
  intro d
  induction d with
  | zero => intro post a1 a2 _ h; omega
  | succ d ih =>
    intro post a1 a2 ho hm hp
    exact hs d post a1 a2 ho hp (fun post' b1 b2 ho' hm' hp' => ih post' b1 b2 ho' (by omega) hp')
theorem rp3 {ρ A1 A2 A3 : Type} (W : Nat → (ρ → Prop) → A1 → A2 → A3 → Prop) (ok : A1 → A2 → A3 → Prop) (μ : A1 → A2 → A3 → Nat) (val : A1 → A2 → A3 → ρ)
    (hs : ∀ (d : Nat) (post : ρ → Prop) (a1 : A1) (a2 : A2) (a3 : A3), ok a1 a2 a3 → post (val a1 a2 a3) → (∀ (post' : ρ → Prop) (b1 : A1) (b2 : A2) (b3 : A3), ok b1 b2 b3 → μ b1 b2 b3 < μ a1 a2 a3 → post' (val b1 b2 b3) → W d post' b1 b2 b3) → W (d + 1) post a1 a2 a3) :
    ∀ (d : Nat) (post : ρ → Prop) (a1 : A1) (a2 : A2) (a3 : A3), ok a1 a2 a3 → μ a1 a2 a3 < d → post (val a1 a2 a3) → W d post a1 a2 a3 := by
  intro d
  induction d with
  | zero => intro post a1 a2 a3 _ h; omega
  | succ d ih =>
    intro post a1 a2 a3 ho hm hp
    exact hs d post a1 a2 a3 ho hp (fun post' b1 b2 b3 ho' hm' hp' => ih post' b1 b2 b3 ho' (by omega) hp')
theorem rp4 {ρ A1 A2 A3 A4 : Type} (W : Nat → (ρ → Prop) → A1 → A2 → A3 → A4 → Prop) (ok : A1 → A2 → A3 → A4 → Prop) (μ : A1 → A2 → A3 → A4 → Nat) (val : A1 → A2 → A3 → A4 → ρ)
    (hs : ∀ (d : Nat) (post : ρ → Prop) (a1 : A1) (a2 : A2) (a3 : A3) (a4 : A4), ok a1 a2 a3 a4 → post (val a1 a2 a3 a4) → (∀ (post' : ρ → Prop) (b1 : A1) (b2 : A2) (b3 : A3) (b4 : A4), ok b1 b2 b3 b4 → μ b1 b2 b3 b4 < μ a1 a2 a3 a4 → post' (val b1 b2 b3 b4) → W d post' b1 b2 b3 b4) → W (d + 1) post a1 a2 a3 a4) :
    ∀ (d : Nat) (post : ρ → Prop) (a1 : A1) (a2 : A2) (a3 : A3) (a4 : A4), ok a1 a2 a3 a4 → μ a1 a2 a3 a4 < d → post (val a1 a2 a3 a4) → W d post a1 a2 a3 a4 := by
  intro d
  induction d with
  | zero => intro post a1 a2 a3 a4 _ h; omega
  | succ d ih =>
    intro post a1 a2 a3 a4 ho hm hp
    exact hs d post a1 a2 a3 a4 ho hp (fun post' b1 b2 b3 b4 ho' hm' hp' => ih post' b1 b2 b3 b4 ho' (by omega) hp')
theorem rp5 {ρ A1 A2 A3 A4 A5 : Type} (W : Nat → (ρ → Prop) → A1 → A2 → A3 → A4 → A5 → Prop) (ok : A1 → A2 → A3 → A4 → A5 → Prop) (μ : A1 → A2 → A3 → A4 → A5 → Nat) (val : A1 → A2 → A3 → A4 → A5 → ρ)
    (hs : ∀ (d : Nat) (post : ρ → Prop) (a1 : A1) (a2 : A2) (a3 : A3) (a4 : A4) (a5 : A5), ok a1 a2 a3 a4 a5 → post (val a1 a2 a3 a4 a5) → (∀ (post' : ρ → Prop) (b1 : A1) (b2 : A2) (b3 : A3) (b4 : A4) (b5 : A5), ok b1 b2 b3 b4 b5 → μ b1 b2 b3 b4 b5 < μ a1 a2 a3 a4 a5 → post' (val b1 b2 b3 b4 b5) → W d post' b1 b2 b3 b4 b5) → W (d + 1) post a1 a2 a3 a4 a5) :
    ∀ (d : Nat) (post : ρ → Prop) (a1 : A1) (a2 : A2) (a3 : A3) (a4 : A4) (a5 : A5), ok a1 a2 a3 a4 a5 → μ a1 a2 a3 a4 a5 < d → post (val a1 a2 a3 a4 a5) → W d post a1 a2 a3 a4 a5 := by
  intro d
  induction d with
  | zero => intro post a1 a2 a3 a4 a5 _ h; omega
  | succ d ih =>
    intro post a1 a2 a3 a4 a5 ho hm hp
    exact hs d post a1 a2 a3 a4 a5 ho hp (fun post' b1 b2 b3 b4 b5 ho' hm' hp' => ih post' b1 b2 b3 b4 b5 ho' (by omega) hp')
theorem rp6 {ρ A1 A2 A3 A4 A5 A6 : Type} (W : Nat → (ρ → Prop) → A1 → A2 → A3 → A4 → A5 → A6 → Prop) (ok : A1 → A2 → A3 → A4 → A5 → A6 → Prop) (μ : A1 → A2 → A3 → A4 → A5 → A6 → Nat) (val : A1 → A2 → A3 → A4 → A5 → A6 → ρ)
    (hs : ∀ (d : Nat) (post : ρ → Prop) (a1 : A1) (a2 : A2) (a3 : A3) (a4 : A4) (a5 : A5) (a6 : A6), ok a1 a2 a3 a4 a5 a6 → post (val a1 a2 a3 a4 a5 a6) → (∀ (post' : ρ → Prop) (b1 : A1) (b2 : A2) (b3 : A3) (b4 : A4) (b5 : A5) (b6 : A6), ok b1 b2 b3 b4 b5 b6 → μ b1 b2 b3 b4 b5 b6 < μ a1 a2 a3 a4 a5 a6 → post' (val b1 b2 b3 b4 b5 b6) → W d post' b1 b2 b3 b4 b5 b6) → W (d + 1) post a1 a2 a3 a4 a5 a6) :
    ∀ (d : Nat) (post : ρ → Prop) (a1 : A1) (a2 : A2) (a3 : A3) (a4 : A4) (a5 : A5) (a6 : A6), ok a1 a2 a3 a4 a5 a6 → μ a1 a2 a3 a4 a5 a6 < d → post (val a1 a2 a3 a4 a5 a6) → W d post a1 a2 a3 a4 a5 a6 := by
  intro d
  induction d with
  | zero => intro post a1 a2 a3 a4 a5 a6 _ h; omega
  | succ d ih =>
    intro post a1 a2 a3 a4 a5 a6 ho hm hp
    exact hs d post a1 a2 a3 a4 a5 a6 ho hp (fun post' b1 b2 b3 b4 b5 b6 ho' hm' hp' => ih post' b1 b2 b3 b4 b5 b6 ho' (by omega) hp')
theorem rec_p {σ ρ : Type} (W : Nat → (ρ → Prop) → σ → Prop) (ok : σ → Prop) (μ : σ → Nat) (val : σ → ρ)
    (hs : ∀ d s post, ok s → post (val s) → (∀ s' post', ok s' → μ s' < μ s → post' (val s') → W d post' s') → W (d + 1) post s) :
    ∀ d s post, ok s → μ s < d → post (val s) → W d post s := by
  intro d
  induction d with
  | zero => intro s post _ h; omega
  | succ d ih =>
    intro s post ho hm hp
    exact hs d s post ho hp (fun s' post' ho' hm' hp' => ih s' post' ho' (by omega) hp')
theorem rec_q {σ ρ : Type} (W : Nat → (ρ → Prop) → σ → Prop) (ok : σ → Prop) (μ : σ → Nat) (Q : σ → ρ → Prop)
    (hs : ∀ d s post, ok s → (∀ r, Q s r → post r) → (∀ s' post', ok s' → μ s' < μ s → (∀ r, Q s' r → post' r) → W d post' s') → W (d + 1) post s) :
    ∀ d s post, ok s → μ s < d → (∀ r, Q s r → post r) → W d post s := by
  intro d
  induction d with
  | zero => intro s post _ h; omega
  | succ d ih =>
    intro s post ho hm hp
    exact hs d s post ho hp (fun s' post' ho' hm' hp' => ih s' post' ho' (by omega) hp')
def bx_sum (f : Nat → Int32) : Nat → Int32
  | 0 => 0
  | n + 1 => bx_sum f n + f n
theorem ek_u {A : Prop} {B : Nat → Prop} {k N : Nat} (hk : k < N) (h : B k) : (some k = none → A) ∧ (∀ y : Nat, some k = some y → (y < N ∧ B y)) :=
  ⟨fun z => absurd z (Option.some_ne_none k), fun _ e => (by cases e; exact ⟨hk, h⟩)⟩
theorem ek_nu {A : Prop} {B : Nat → Prop} (h : A) : ((none : Option Nat) = none → A) ∧ (∀ y : Nat, (none : Option Nat) = some y → B y) :=
  ⟨fun _ => h, fun _ e => (by cases e)⟩
theorem ek_if {c d A B : Prop} (e : c ↔ d) (f : d → A) (g : ¬ d → B) : (c → A) ∧ (¬ c → B) :=
  ⟨fun z => f (e.mp z), fun z => g (fun y => z (e.mpr y))⟩
theorem ek_v {α : Sort _} {P : α → Prop} {a b : α} (e : a = b) (h : P b) : P a := e ▸ h
theorem co_some {x : Option Nat} {A : Prop} {B : Nat → Prop} (i : Nat) (h : B i) (hx : x = some i := by rfl) : (x = none → A) ∧ (∀ y : Nat, x = some y → B y) := by
  subst hx
  exact ⟨fun e => (nomatch e), fun y e => Option.some.inj e ▸ h⟩
theorem co_none {x : Option Nat} {A : Prop} {B : Nat → Prop} (h : A) (hx : x = none := by rfl) : (x = none → A) ∧ (∀ y : Nat, x = some y → B y) := by
  subst hx
  exact ⟨fun _ => h, fun y e => (nomatch e)⟩
theorem co_any {x : Option Nat} {A : Prop} {B : Nat → Prop} (hn : x = none → A) (hs : ∀ i : Nat, x = some i → B i) : (x = none → A) ∧ (∀ y : Nat, x = some y → B y) := ⟨hn, hs⟩
theorem co_2 {P : Nat → Prop} (h0 : P 0) (h1 : P 1) {i : Nat} (hi : i < 2) : P i :=
  match i, hi with
  | 0, _ => h0
  | 1, _ => h1
theorem co_3 {P : Nat → Prop} (h0 : P 0) (h1 : P 1) (h2 : P 2) {i : Nat} (hi : i < 3) : P i :=
  match i, hi with
  | 0, _ => h0
  | 1, _ => h1
  | 2, _ => h2
theorem co_4 {P : Nat → Prop} (h0 : P 0) (h1 : P 1) (h2 : P 2) (h3 : P 3) {i : Nat} (hi : i < 4) : P i :=
  match i, hi with
  | 0, _ => h0
  | 1, _ => h1
  | 2, _ => h2
  | 3, _ => h3
theorem co_dec {N : Nat} {P : Nat → Prop} [DecidablePred P] (h : (List.range N).all (fun i => decide (P i)) = true) {i : Nat} (hi : i < N) : P i := by
  have := List.all_eq_true.mp h i (List.mem_range.mpr hi)
  exact of_decide_eq_true this
theorem co_tab {α : Type} {l : List α} {d : α} {P : α → Prop} (h : ∀ a, a ∈ l → P a) {i : Nat} (hi : i < l.length) : P (l.getD i d) := by
  rw [List.getD_eq_getElem?_getD, List.getElem?_eq_getElem hi]
  exact h _ (List.getElem_mem hi)
theorem pk_mu {x : Int32} {L : Nat} (h0 : ¬ x < 0) (h : ¬ nI L ≤ x) (hL : L < 2 ^ 31) : ∃ j : Nat, j < L ∧ x = nI j ∧ x + 1 = nI (j + 1) ∧ x.toNatClampNeg = j ∧ L - (x + 1).toNatClampNeg < L - x.toNatClampNeg := by
  obtain ⟨j, hj, rfl⟩ := nI_of h0
  have hl : j < L := Nat.not_le.mp fun q => h (nI_le q hj)
  refine ⟨j, hl, rfl, nI_1 j, nI_clamp hj, ?_⟩
  rw [nI_1, nI_clamp (by omega), nI_clamp hj]
  omega
theorem op_s {α : Type} {r : Option α} {A : Prop} {B : α → Prop} {y : α} (h : r = some y) (b : B y) : (r = none → A) ∧ ∀ z, r = some z → B z :=
  ⟨fun e => (by rw [h] at e; cases e), fun z e => (by rw [h] at e; cases e; exact b)⟩
def l_holds {α : Type} (a : Nat → Option Nat) (LP : List Nat) (p : Nat → α) (c : Nat) (b : Nat → α) : Prop :=
  ∀ j, j < c → ∃ y, a j = some y ∧ y ∈ LP ∧ p y = b j
theorem l_holds_0 {α : Type} {a : Nat → Option Nat} {LP : List Nat} {p b : Nat → α} : l_holds a LP p 0 b := fun j h => absurd h (Nat.not_lt_zero j)
theorem l_in_new (LP : List Nat) (q : Nat) : q ∈ LP ++ [q] := List.mem_append.mpr (Or.inr (List.mem_singleton.mpr rfl))
def l_sum (b : Nat → Int32) : Nat → Int32
  | 0 => 0
  | k + 1 => l_sum b k + b k
theorem sb_shr0 (x : Int32) : x >>> ((0 : Int32) &&& 31) = x := by
  rw [show ((0 : Int32) &&& 31) = 0 by decide]
  simp
theorem sb_shl0 (x : Int32) : x <<< ((0 : Int32) &&& 31) = x := by
  rw [show ((0 : Int32) &&& 31) = 0 by decide]
  simp
theorem sb_cl0 : (0 : Int32).toNatClampNeg = 0 := by decide
theorem sb_m1 {p : Nat} (h : 0 < p) : nI p + (-1) = nI (p - 1) := by
  obtain ⟨q, rfl⟩ : ∃ q, p = q + 1 := ⟨p - 1, by omega⟩
  exact pk_m1 q
def sb_b (c : Nat) : Int32 := (nI c).toInt8.toInt32
theorem sb_byte : ∀ c, c < 256 → sb_b c &&& 255 = nI c ∧ ((nI c).toUInt32 % 65536).toInt32 = nI c ∧ nI c ≤ 255 := by decide +kernel
def sb_Fit (a : Nat → Int32) : Prop := ∀ j, fits .byte (.int (a j)) = true
def sb_Lat (t : Nat → Nat) (n : Nat) (a : Nat → Int32) : Prop := ∀ j, j < n → t j < 256 ∧ a j = sb_b (t j)
theorem sb_fitB (c : Nat) : fits .byte (.int (sb_b c)) = true := pk_fb _
theorem sb_fit0 : sb_Fit (fun _ => 0) := fun _ => by
  show fits .byte (.int 0) = true
  decide
theorem sb_fitU {a : Nat → Int32} {k : Nat} {x : Int32} (h : sb_Fit a) (hx : fits .byte (.int x) = true) : sb_Fit (upd a k x) := by
  intro j
  by_cases e : j = k
  · subst e
    rw [pk_us]
    exact hx
  · rw [pk_un e]
    exact h j
def sb_cat (t : Nat → Nat) (n : Nat) (s : Nat → Nat) : Nat → Nat := fun j => if j < n then t j else s (j - n)
theorem sb_cat_lo {t s : Nat → Nat} {n j : Nat} (h : j < n) : sb_cat t n s j = t j := if_pos h
theorem sb_cat_hi {t s : Nat → Nat} {n j : Nat} : sb_cat t n s (n + j) = s j := by
  show (if n + j < n then t (n + j) else s (n + j - n)) = s j
  rw [if_neg (by omega), Nat.add_sub_cancel_left]
theorem sb_latPut {t s : Nat → Nat} {n w : Nat} {a a' : Nat → Int32} (h : sb_Lat t n a) (hk : ∀ j, j < n → a' j = a j) (hs : ∀ i, i < w → s i < 256 ∧ a' (n + i) = sb_b (s i)) : sb_Lat (sb_cat t n s) (n + w) a' := by
  intro j hj
  by_cases e : j < n
  · rw [sb_cat_lo e, hk j e]
    exact h j e
  · obtain ⟨i, rfl⟩ : ∃ i, j = n + i := ⟨j - n, by omega⟩
    rw [sb_cat_hi]
    exact hs i (by omega)
theorem sb_latKeep {t : Nat → Nat} {n : Nat} {a a' : Nat → Int32} (h : sb_Lat t n a) (hk : ∀ j, j < n → a' j = a j) : sb_Lat t n a' := fun j hj => by
  rw [hk j hj]
  exact h j hj
def sb_cap (q m : Nat) : Nat := if q ≤ m then m else if 2 * m + 2 < q then q else 2 * m + 2
def sb_Room (q m mc ms : Nat) : Prop := q ≤ m ∨ (1 ≤ mc ∧ sb_cap q m ≤ ms ∧ sb_cap q m ≤ 65536)
theorem sb_cap_ge (q m : Nat) : q ≤ sb_cap q m := by
  unfold sb_cap
  split
  · omega
  · split <;> omega
theorem sb_cap_gem (q m : Nat) : m ≤ sb_cap q m := by
  unfold sb_cap
  split
  · omega
  · split <;> omega
theorem sb_cap_le {q m mc ms : Nat} (hm : m ≤ 65536) (hr : sb_Room q m mc ms) : sb_cap q m ≤ 65536 := by
  rcases hr with h | h
  · rw [sb_cap, if_pos h]
    exact hm
  · exact h.2.2
theorem sb_at {P : Int32 → Prop} {x y : Int32} (e : x = y) (h : P y) : P x := e ▸ h
def sb_dg (w : Nat) : Nat := if w < 10 then 1 else if w < 100 then 2 else if w < 1000 then 3 else if w < 10000 then 4 else if w < 100000 then 5 else if w < 1000000 then 6 else if w < 10000000 then 7 else if w < 100000000 then 8 else if w < 1000000000 then 9 else 10
def sb_dec (v : Nat) : Nat → Nat := fun i => 48 + v / 10 ^ (sb_dg v - 1 - i) % 10
theorem sb_dg_in (w : Nat) : 1 ≤ sb_dg w ∧ sb_dg w ≤ 10 := by
  unfold sb_dg
  constructor <;> (repeat' split) <;> omega
theorem sb_dg100 {w : Nat} (h : 100 ≤ w) (hw : w < 2 ^ 31) : sb_dg w = sb_dg (w / 100) + 2 := by
  rw [sb_dg, sb_dg, if_neg (show ¬ w < 10 by omega), if_neg (show ¬ w < 100 by omega)]
  by_cases h3 : w < 1000
  · rw [if_pos h3, if_pos (show w / 100 < 10 by omega)]
  rw [if_neg h3, if_neg (show ¬ w / 100 < 10 by omega)]
  by_cases h4 : w < 10000
  · rw [if_pos h4, if_pos (show w / 100 < 100 by omega)]
  rw [if_neg h4, if_neg (show ¬ w / 100 < 100 by omega)]
  by_cases h5 : w < 100000
  · rw [if_pos h5, if_pos (show w / 100 < 1000 by omega)]
  rw [if_neg h5, if_neg (show ¬ w / 100 < 1000 by omega)]
  by_cases h6 : w < 1000000
  · rw [if_pos h6, if_pos (show w / 100 < 10000 by omega)]
  rw [if_neg h6, if_neg (show ¬ w / 100 < 10000 by omega)]
  by_cases h7 : w < 10000000
  · rw [if_pos h7, if_pos (show w / 100 < 100000 by omega)]
  rw [if_neg h7, if_neg (show ¬ w / 100 < 100000 by omega)]
  by_cases h8 : w < 100000000
  · rw [if_pos h8, if_pos (show w / 100 < 1000000 by omega)]
  rw [if_neg h8, if_neg (show ¬ w / 100 < 1000000 by omega)]
  by_cases h9 : w < 1000000000
  · rw [if_pos h9, if_pos (show w / 100 < 10000000 by omega)]
  rw [if_neg h9, if_neg (show ¬ w / 100 < 10000000 by omega)]
  rw [if_pos (show w / 100 < 100000000 by omega)]
theorem sb_negT {w : Nat} (h : w < 2 ^ 31) : (-nI w).toInt = -(w : Int) := by
  rw [Int32.toInt_neg, nI_toInt h]
  exact Int.bmod_eq_of_le (by omega) (by omega)
theorem sb_nle {a b : Nat} (ha : a < 2 ^ 31) (hb : b < 2 ^ 31) : -nI a ≤ -nI b ↔ b ≤ a := by
  rw [Int32.le_iff_toInt_le, sb_negT ha, sb_negT hb]
  omega
theorem sb_nlt {a b : Nat} (ha : a < 2 ^ 31) (hb : b < 2 ^ 31) : -nI a < -nI b ↔ b < a := by
  rw [Int32.lt_iff_toInt_lt, sb_negT ha, sb_negT hb]
  omega
theorem sb_cmp {A B : Prop} {x : Int32} (v c : Nat) (f : c ≤ v → A) (g : v < c → B) (hv : v < 2 ^ 31) (hx : x = -nI c := by rfl) (hc : c < 2 ^ 31 := by omega) : (-nI v ≤ x → A) ∧ (¬ -nI v ≤ x → B) := by
  subst hx
  rw [sb_nle hv hc]
  exact ⟨f, fun z => g (by omega)⟩
theorem sb_ndiv {w : Nat} (hw : w < 2 ^ 31) : (-nI w) / 100 = -nI (w / 100) := by
  apply Int32.toInt_inj.mp
  have h100 : (100 : Int32).toInt = 100 := by decide
  rw [Int32.toInt_div, sb_negT hw, h100, sb_negT (by omega), Int.neg_tdiv, Int.tdiv_eq_ediv_of_nonneg (by omega), Int.bmod_eq_of_le (by omega) (by omega)]
  omega
theorem sb_nrem {w : Nat} (hw : w < 2 ^ 31) : (-nI (w / 100)) * 100 - (-nI w) = nI (w % 100) := by
  have h := pk_rem (a := w) (d := 100) hw (by decide) (by decide)
  rw [pk_div hw (by decide) (by decide)] at h
  rw [← h]
  show (-nI (w / 100)) * nI 100 - (-nI w) = nI w - nI (w / 100) * nI 100
  rw [Int32.neg_mul, Int32.sub_neg, Int32.add_comm, ← Int32.sub_eq_add_neg]
end
section
/-! rows on bits, shifts and unsigned numbers, to paste: each family out of a closed proof of our own, whole with what it rests on; each by itself clean at Lean in its own claim (generation 39, form 5). Take a family whole -/
/-! ===== Int32 by its bits: bt x i ===== -/
def bt (x : Int32) (i : Nat) : Bool := x.toBitVec.getLsbD i
theorem b_ext {x y : Int32} (h : ∀ i, i < 32 → bt x i = bt y i) : x = y := Int32.toBitVec_inj.mp (BitVec.eq_of_getLsbD_eq (fun i hi => h i hi))
theorem b_or (x y : Int32) (i : Nat) : bt (x ||| y) i = (bt x i || bt y i) := by unfold bt; rw [Int32.toBitVec_or, BitVec.getLsbD_or]
theorem b_and (x y : Int32) (i : Nat) : bt (x &&& y) i = (bt x i && bt y i) := by unfold bt; rw [Int32.toBitVec_and, BitVec.getLsbD_and]
theorem b_xor (x y : Int32) (i : Nat) : bt (x ^^^ y) i = (bt x i ^^ bt y i) := by unfold bt; rw [Int32.toBitVec_xor, BitVec.getLsbD_xor]
theorem b_big {x : Int32} {i : Nat} (h : 32 ≤ i) : bt x i = false := BitVec.getLsbD_of_ge _ _ h
theorem b_255 (i : Nat) : bt 255 i = decide (i < 8) := by
  rcases Nat.lt_or_ge i 32 with h | h
  · exact (by decide +kernel : ∀ i, i < 32 → bt 255 i = decide (i < 8)) i h
  · rw [b_big h, decide_eq_false (by omega)]
theorem b_65535 (i : Nat) : bt 65535 i = decide (i < 16) := by
  rcases Nat.lt_or_ge i 32 with h | h
  · exact (by decide +kernel : ∀ i, i < 32 → bt 65535 i = decide (i < 16)) i h
  · rw [b_big h, decide_eq_false (by omega)]
theorem b_m1 : ∀ i, i < 32 → bt (-1) i = true := by decide +kernel
theorem b_0 (i : Nat) : bt 0 i = false := BitVec.getLsbD_zero
theorem s_l : ∀ n, n < 32 → ((nI n &&& 31).toBitVec.smod 32).toNat = n := by decide +kernel
theorem s_u : ∀ n, n < 32 → (((nI n).toUInt32 &&& Int32.toUInt32 31).toBitVec % 32).toNat = n := by decide +kernel
theorem b_shl (n : Nat) (hn : n < 32) (x : Int32) {i : Nat} (hi : i < 32) : bt (x <<< (nI n &&& 31)) i = (decide (n ≤ i) && bt x (i - n)) := by
  unfold bt
  rw [Int32.toBitVec_shiftLeft]
  show (x.toBitVec <<< ((nI n &&& 31).toBitVec.smod 32).toNat).getLsbD i = _
  rw [s_l n hn, BitVec.getLsbD_shiftLeft]
  rcases Nat.lt_or_ge i n with h | h
  · simp [h, Nat.not_le.mpr h]
  · simp [hi, h, Nat.not_lt.mpr h]
theorem b_ushr (n : Nat) (hn : n < 32) (x : Int32) (i : Nat) : bt ((x.toUInt32 >>> ((nI n).toUInt32 &&& Int32.toUInt32 31)).toInt32) i = bt x (n + i) := by
  show (x.toUInt32 >>> ((nI n).toUInt32 &&& Int32.toUInt32 31)).toBitVec.getLsbD i = x.toUInt32.toBitVec.getLsbD (n + i)
  rw [UInt32.toBitVec_shiftRight]
  show (x.toUInt32.toBitVec >>> (((nI n).toUInt32 &&& Int32.toUInt32 31).toBitVec % 32).toNat).getLsbD i = _
  rw [s_u n hn, BitVec.getLsbD_ushiftRight]
theorem b_sshr (n : Nat) (hn : n < 32) (x : Int32) {i : Nat} (hi : i < 32) : bt (x >>> (nI n &&& 31)) i = if n + i < 32 then bt x (n + i) else bt x 31 := by
  unfold bt
  rw [Int32.toBitVec_shiftRight]
  show (x.toBitVec.sshiftRight ((nI n &&& 31).toBitVec.smod 32).toNat).getLsbD i = _
  rw [s_l n hn, BitVec.getLsbD_sshiftRight, BitVec.msb_eq_getLsbD_last]
  simp [hi]
theorem b_shl8 (x : Int32) {i : Nat} (hi : i < 32) : bt (x <<< ((8 : Int32) &&& 31)) i = (decide (8 ≤ i) && bt x (i - 8)) := b_shl 8 (by omega) x hi
theorem b_shl16 (x : Int32) {i : Nat} (hi : i < 32) : bt (x <<< ((16 : Int32) &&& 31)) i = (decide (16 ≤ i) && bt x (i - 16)) := b_shl 16 (by omega) x hi
theorem b_shl24 (x : Int32) {i : Nat} (hi : i < 32) : bt (x <<< ((24 : Int32) &&& 31)) i = (decide (24 ≤ i) && bt x (i - 24)) := b_shl 24 (by omega) x hi
theorem b_sshr8 (x : Int32) {i : Nat} (hi : i < 32) : bt (x >>> ((8 : Int32) &&& 31)) i = if 8 + i < 32 then bt x (8 + i) else bt x 31 := b_sshr 8 (by omega) x hi
/-! ===== nI under and, xor, >>>, one bit, 65535 ===== -/
theorem nx_and (a b : Nat) : nI a &&& nI b = nI (a &&& b) := by
  apply Int32.toBitVec_inj.1
  show BitVec.ofNat 32 a &&& BitVec.ofNat 32 b = BitVec.ofNat 32 (a &&& b)
  apply BitVec.eq_of_getLsbD_eq
  intro i hi
  simp [hi]
theorem nx_xor (a b : Nat) : nI a ^^^ nI b = nI (a ^^^ b) := by
  apply Int32.toBitVec_inj.1
  show BitVec.ofNat 32 a ^^^ BitVec.ofNat 32 b = BitVec.ofNat 32 (a ^^^ b)
  apply BitVec.eq_of_getLsbD_eq
  intro i hi
  simp [hi]
theorem nx_cnt : ∀ j : Fin 32, (UInt32.ofNat j.val &&& Int32.toUInt32 31).toNat % 32 = j.val := by decide +kernel
theorem nx_ush {k j : Nat} (hk : k < 65536) (hj : j < 32) : ((nI k).toUInt32 >>> ((nI j).toUInt32 &&& Int32.toUInt32 31)).toInt32 = nI (k >>> j) := by
  have hs : k >>> j ≤ k := by
    rw [Nat.shiftRight_eq_div_pow]
    exact Nat.div_le_self _ _
  have e2 : UInt32.ofNat k >>> (UInt32.ofNat j &&& Int32.toUInt32 31) = UInt32.ofNat (k >>> j) := by
    apply UInt32.toNat_inj.1
    have h1 : (UInt32.ofNat k).toNat = k := Nat.mod_eq_of_lt (by omega)
    have h2 : (UInt32.ofNat (k >>> j)).toNat = k >>> j := Nat.mod_eq_of_lt (by omega)
    rw [UInt32.toNat_shiftRight, nx_cnt ⟨j, hj⟩, h1, h2]
  show (UInt32.ofNat k >>> (UInt32.ofNat j &&& Int32.toUInt32 31)).toInt32 = _
  rw [e2]
  rfl
theorem nx_bit {k j : Nat} (hk : k < 65536) (hj : j < 16) : (((nI k).toUInt32 >>> ((nI j).toUInt32 &&& Int32.toUInt32 31)).toInt32 &&& 1) = 0 ↔ k.testBit j = false := by
  rw [nx_ush hk (by omega)]
  show nI (k >>> j) &&& nI 1 = 0 ↔ _
  rw [nx_and, Nat.and_one_is_mod, ← nI_0, nI_eq (by omega) (by omega), Nat.testBit_eq_decide_div_mod_eq, Nat.shiftRight_eq_div_pow, decide_eq_false_iff_not]
  generalize k / 2 ^ j = z
  omega
theorem nx_mod (k : Nat) : nI k &&& 65535 = nI (k % 65536) := by
  show nI k &&& nI 65535 = _
  rw [nx_and, show (65535 : Nat) = 2 ^ 16 - 1 from rfl, Nat.and_two_pow_sub_one_eq_mod]
theorem nx_m16 {k : Nat} (h : k < 65536) : nI k &&& 65535 = nI k := by rw [nx_mod, Nat.mod_eq_of_lt h]
theorem nx_mask (x : Int32) : ∃ k, k < 65536 ∧ x &&& 65535 = nI k := by
  have e : x = nI x.toBitVec.toNat := by
    apply Int32.toBitVec_inj.1
    show x.toBitVec = BitVec.ofNat 32 x.toBitVec.toNat
    simp
  refine ⟨x.toBitVec.toNat % 65536, Nat.mod_lt _ (by omega), ?_⟩
  rw [← nx_mod, ← e]
/-! ===== Int32 as a set of bits: test, set ===== -/
def nf_M (m : Int32) : Nat := 4294967296 - m.toBitVec.toNat
theorem nf_sh : ∀ l, l < 32 → ((1 : Int32) <<< (nI l &&& 31)).toBitVec = BitVec.twoPow 32 l := by decide +kernel
theorem nf_sl : ∀ l, l < 32 → (((nI l).toUInt32 &&& Int32.toUInt32 31).toBitVec % 32).toNat = l := by decide +kernel
theorem nf_tp : ∀ l, l < 32 → BitVec.twoPow 32 l ≠ 0#32 := by decide +kernel
theorem nf_bit (m : Int32) (l : Nat) (hl : l < 32) : ((m.toUInt32 >>> ((nI l).toUInt32 &&& Int32.toUInt32 31)).toInt32 &&& 1) = 0 ↔ (m &&& ((1 : Int32) <<< (nI l &&& 31))) = 0 := by
  have e : ((m.toUInt32 >>> ((nI l).toUInt32 &&& Int32.toUInt32 31)).toInt32).toBitVec = m.toBitVec >>> l := by
    show m.toBitVec >>> (((nI l).toUInt32 &&& Int32.toUInt32 31).toBitVec % 32) = m.toBitVec >>> l
    rw [BitVec.ushiftRight_eq', nf_sl l hl]
  rw [← Int32.toBitVec_inj, ← Int32.toBitVec_inj, Int32.toBitVec_and, Int32.toBitVec_and, nf_sh l hl, e, BitVec.and_twoPow]
  show (m.toBitVec >>> l &&& 1#32) = 0#32 ↔ _ = 0#32
  rw [BitVec.and_one_eq_setWidth_ofBool_getLsbD, BitVec.getLsbD_ushiftRight, Nat.add_zero]
  cases hb : m.toBitVec.getLsbD l
  · exact ⟨fun _ => by simp, fun _ => by decide⟩
  · exact ⟨fun z => absurd z (by decide), fun z => absurd ((if_pos rfl).symm.trans z) (nf_tp l hl)⟩
theorem nf_gr (m k : Int32) (h : m &&& k = 0) (hk : k ≠ 0) : nf_M (m ||| k) < nf_M m := by
  have hm := m.toBitVec.isLt
  have hm' := (m ||| k).toBitVec.isLt
  have h1 : m.toBitVec.toNat ≤ (m ||| k).toBitVec.toNat := by
    rw [Int32.toBitVec_or, BitVec.toNat_or]
    exact Nat.left_le_or
  have h2 : m.toBitVec.toNat ≠ (m ||| k).toBitVec.toNat := by
    intro e
    have e2 : m = m ||| k := Int32.toBitVec_inj.mp (BitVec.eq_of_toNat_eq e)
    apply hk
    apply Int32.toBitVec_inj.mp
    show k.toBitVec = 0#32
    apply BitVec.eq_of_getLsbD_eq
    intro i hi
    have a : m.toBitVec.getLsbD i = (m.toBitVec.getLsbD i || k.toBitVec.getLsbD i) := by rw [← BitVec.getLsbD_or, ← Int32.toBitVec_or, ← e2]
    have b : (m.toBitVec.getLsbD i && k.toBitVec.getLsbD i) = false := by
      rw [← BitVec.getLsbD_and, ← Int32.toBitVec_and, h]
      exact BitVec.getLsbD_zero
    rw [BitVec.getLsbD_zero]
    revert a b
    cases m.toBitVec.getLsbD i <;> cases k.toBitVec.getLsbD i <;> simp
  unfold nf_M
  omega
/-! ===== a byte read unsigned ===== -/
theorem bp_b (x : Int32) : x.toInt8.toInt32 &&& 255 = x &&& 255 := by
  apply Int32.toBitVec_inj.mp
  rw [Int32.toBitVec_and, Int32.toBitVec_and, Int8.toBitVec_toInt32, Int32.toBitVec_toInt8]
  apply BitVec.eq_of_getLsbD_eq
  intro i hi
  rw [BitVec.getLsbD_and, BitVec.getLsbD_and]
  have hm : ∀ i < 32, 8 ≤ i → (255 : Int32).toBitVec.getLsbD i = false := by decide
  rcases Nat.lt_or_ge i 8 with z | z
  · rw [BitVec.getLsbD_signExtend, BitVec.getLsbD_signExtend, if_pos z, if_pos hi]
    simp only [z, hi, decide_true, Bool.true_and]
  · rw [hm i hi z]; simp
/-! ===== the char cast and 65535 ===== -/
theorem em_w (v : Int32) : ∃ w : Nat, w < 65536 ∧ (v.toUInt32 % 65536).toInt32 = nI w ∧ v &&& 65535 = nI w := by
  have hr := lw_u16_r v
  have h0 : (0 : Int32).toInt = 0 := by decide
  obtain ⟨w, h1, h2⟩ := nI_of (x := lw_u16 v) (by rw [Int32.lt_iff_toInt_lt]; omega)
  have h3 : (v.toUInt32 % 65536).toInt32 = nI w := h2
  rw [h2, nI_toInt h1] at hr
  exact ⟨w, by omega, h3, by rw [← lg_i2c_mask, ← lg_i2c_nf, h3]⟩
/-! ===== Int64 as a set of bits: test, set, clear ===== -/
theorem ts_nf {x : Bool} (h : ¬ x = false) : x = true := by cases x <;> first | rfl | exact absurd rfl h
theorem ts_nt {x : Bool} (h : ¬ x = true) : x = false := by cases x <;> first | rfl | exact absurd rfl h
theorem ts_bit {w : Int64} {s : UInt64} {j : Nat} (hj : j < 64) (hs : s.toNat = j) : ((w.toUInt64 >>> s).toInt64 &&& 1) = 0 ↔ w.toBitVec.getLsbD j = false := by
  have e : (w.toUInt64 >>> s).toInt64.toBitVec = w.toBitVec >>> j := by
    apply BitVec.eq_of_toNat_eq
    show (w.toUInt64 >>> s).toNat = _
    rw [UInt64.toNat_shiftRight, hs, Nat.mod_eq_of_lt hj, BitVec.toNat_ushiftRight]
    rfl
  rw [← Int64.toBitVec_inj, Int64.toBitVec_and, e]
  show w.toBitVec >>> j &&& 1#64 = 0#64 ↔ _
  constructor
  · intro h
    have t := congrArg (fun x => x.getLsbD 0) h
    simpa using t
  · intro h
    apply BitVec.eq_of_getLsbD_eq
    intro i hi
    cases i with
    | zero => simp [h]
    | succ i => simp
theorem ts_or {w m : Int64} {j : Nat} (hj : j < 64) (hm : m.toBitVec = BitVec.twoPow 64 j) : (w ||| m) = w ↔ w.toBitVec.getLsbD j = true := by
  rw [← Int64.toBitVec_inj, Int64.toBitVec_or, hm]
  constructor
  · intro h
    have t := congrArg (fun x => x.getLsbD j) h
    simp only [BitVec.getLsbD_or, BitVec.getLsbD_twoPow] at t
    simpa [hj] using t.symm
  · intro h
    apply BitVec.eq_of_getLsbD_eq
    intro i hi
    rw [BitVec.getLsbD_or, BitVec.getLsbD_twoPow]
    by_cases e : j = i
    · subst e; rw [h, Bool.true_or]
    · simp [e]
theorem ts_and {w m : Int64} {j : Nat} (hj : j < 64) (hm : m.toBitVec = BitVec.twoPow 64 j) : (w &&& (m ^^^ (-1))) = w ↔ w.toBitVec.getLsbD j = false := by
  have ha : (-1 : Int64).toBitVec = BitVec.allOnes 64 := by decide
  rw [← Int64.toBitVec_inj, Int64.toBitVec_and, Int64.toBitVec_xor, hm, ha]
  constructor
  · intro h
    have t := congrArg (fun x => x.getLsbD j) h
    simp only [BitVec.getLsbD_and, BitVec.getLsbD_xor, BitVec.getLsbD_twoPow, BitVec.getLsbD_allOnes] at t
    simpa [hj] using t.symm
  · intro h
    apply BitVec.eq_of_getLsbD_eq
    intro i hi
    rw [BitVec.getLsbD_and, BitVec.getLsbD_xor, BitVec.getLsbD_twoPow, BitVec.getLsbD_allOnes]
    by_cases e : j = i
    · subst e; rw [h, Bool.false_and]
    · simp [e, hi]
/-! ===== lN n to 2^64: shifts, and, or, masks, one bit ===== -/
theorem wb_tb (n : Nat) : (lN n).toBitVec = BitVec.ofNat 64 n := rfl
theorem wb_inj {a b : Int64} (h : a.toBitVec = b.toBitVec) : a = b := Int64.toBitVec_inj.mp h
theorem wb_tn {n : Nat} (h : n < 2 ^ 64) : (lN n).toBitVec.toNat = n := by rw [wb_tb, BitVec.toNat_ofNat, Nat.mod_eq_of_lt h]
theorem wb_of (x : Int64) : ∃ n, n < 2 ^ 64 ∧ x = lN n := ⟨x.toBitVec.toNat, x.toBitVec.isLt, wb_inj (by rw [wb_tb]; simp)⟩
theorem wb_of32 (x : Int32) : ∃ n, n < 2 ^ 32 ∧ x = nI n := ⟨x.toBitVec.toNat, x.toBitVec.isLt, Int32.toBitVec_inj.mp (by show _ = BitVec.ofNat 32 _; simp)⟩
theorem wb_c : ∀ k, k < 64 → ((nI k).toInt64 &&& 63) = lN k := by decide +kernel
theorem wb_cu : ∀ k, k < 64 → ((nI k).toInt64.toUInt64 &&& Int64.toUInt64 63) = UInt64.ofNat k := by decide +kernel
theorem wb_sm : ∀ k, k < 64 → (BitVec.ofNat 64 k).smod 64 = BitVec.ofNat 64 k := by decide +kernel
theorem wb_pw {a b : Nat} (h : a ≤ b) : 2 ^ b = 2 ^ a * 2 ^ (b - a) := by rw [← Nat.pow_add]; congr 1; omega
theorem wb_lt2 {a b : Nat} (h : a < b) : 2 ^ a < 2 ^ b := Nat.pow_lt_pow_right (by decide) h
theorem wb_mod (n : Nat) : lN n = lN (n % 2 ^ 64) := wb_inj (by rw [wb_tb, wb_tb]; apply BitVec.eq_of_toNat_eq; rw [BitVec.toNat_ofNat, BitVec.toNat_ofNat, Nat.mod_mod])
theorem wb_shr {n k : Nat} (hn : n < 2 ^ 64) (hk : k < 64) : ((lN n).toUInt64 >>> ((nI k).toInt64.toUInt64 &&& Int64.toUInt64 63)).toInt64 = lN (n / 2 ^ k) := by
  rw [wb_cu k hk]
  apply wb_inj
  apply BitVec.eq_of_toNat_eq
  show ((lN n).toUInt64 >>> UInt64.ofNat k).toNat = (BitVec.ofNat 64 _).toNat
  have h1 : (UInt64.ofNat k).toNat = k := by
    show (BitVec.ofNat 64 k).toNat = k
    rw [BitVec.toNat_ofNat, Nat.mod_eq_of_lt (by omega)]
  have h2 : (lN n).toUInt64.toNat = n := wb_tn hn
  rw [UInt64.toNat_shiftRight, h1, h2, Nat.mod_eq_of_lt hk, Nat.shiftRight_eq_div_pow, BitVec.toNat_ofNat, Nat.mod_eq_of_lt (Nat.lt_of_le_of_lt (Nat.div_le_self _ _) hn)]
theorem wb_shl (n : Nat) {k : Nat} (hk : k < 64) : lN n <<< ((nI k).toInt64 &&& 63) = lN (n * 2 ^ k) := by
  rw [wb_c k hk]
  apply wb_inj
  rw [Int64.toBitVec_shiftLeft, wb_tb, wb_tb, wb_tb, wb_sm k hk]
  apply BitVec.eq_of_toNat_eq
  rw [BitVec.shiftLeft_eq', BitVec.toNat_shiftLeft, BitVec.toNat_ofNat, BitVec.toNat_ofNat, BitVec.toNat_ofNat, Nat.mod_eq_of_lt (show k < 2 ^ 64 by omega), Nat.shiftLeft_eq, Nat.mul_mod, Nat.mod_mod, ← Nat.mul_mod]
theorem wb_and {a b : Nat} (ha : a < 2 ^ 64) (hb : b < 2 ^ 64) : lN a &&& lN b = lN (a &&& b) := by
  apply wb_inj
  rw [Int64.toBitVec_and, wb_tb, wb_tb, wb_tb]
  apply BitVec.eq_of_toNat_eq
  rw [BitVec.toNat_and, BitVec.toNat_ofNat, BitVec.toNat_ofNat, BitVec.toNat_ofNat, Nat.mod_eq_of_lt ha, Nat.mod_eq_of_lt hb, Nat.mod_eq_of_lt (Nat.and_lt_two_pow _ hb)]
theorem wb_or {a b : Nat} (ha : a < 2 ^ 64) (hb : b < 2 ^ 64) : lN a ||| lN b = lN (a ||| b) := by
  apply wb_inj
  rw [Int64.toBitVec_or, wb_tb, wb_tb, wb_tb]
  apply BitVec.eq_of_toNat_eq
  rw [BitVec.toNat_or, BitVec.toNat_ofNat, BitVec.toNat_ofNat, BitVec.toNat_ofNat, Nat.mod_eq_of_lt ha, Nat.mod_eq_of_lt hb, Nat.mod_eq_of_lt (Nat.or_lt_two_pow ha hb)]
theorem wb_mask {n k : Nat} (hn : n < 2 ^ 64) (hk : k < 64) : lN n &&& lN (2 ^ k - 1) = lN (n % 2 ^ k) := by
  rw [wb_and hn (by have := wb_lt2 hk; omega), Nat.and_two_pow_sub_one_eq_mod]
theorem wb_a1 {n : Nat} (hn : n < 2 ^ 64) : lN n &&& 1 = lN (n % 2) := wb_mask (k := 1) hn (by decide)
theorem wb_bit {n k : Nat} (hn : n < 2 ^ 64) (hk : k < 64) : ((lN n).toUInt64 >>> ((nI k).toInt64.toUInt64 &&& Int64.toUInt64 63)).toInt64 &&& 1 = lN (n / 2 ^ k % 2) := by
  rw [wb_shr hn hk, wb_a1 (Nat.lt_of_le_of_lt (Nat.div_le_self _ _) hn)]
theorem wb_xor {q k : Nat} (hk : k < 63) (h : 2 ^ k ≤ q) (h2 : q < 2 ^ (k + 1)) : lN q ^^^ lN (2 ^ k) = lN (q - 2 ^ k) := by
  obtain ⟨r, rfl⟩ : ∃ r, q = 2 ^ k + r := ⟨q - 2 ^ k, by omega⟩
  have hr : r < 2 ^ k := by rw [Nat.pow_succ] at h2; omega
  have hx : (2 ^ k + r) ^^^ 2 ^ k = r := by
    apply Nat.eq_of_testBit_eq
    intro i
    rw [Nat.testBit_xor, Nat.testBit_two_pow]
    rcases Nat.lt_trichotomy i k with h | h | h
    · rw [Nat.testBit_two_pow_add_gt h]
      simp [show ¬ k = i by omega]
    · subst h
      rw [Nat.testBit_two_pow_add_eq]
      simp
    · have a1 : 2 ^ (k + 1) ≤ 2 ^ i := Nat.pow_le_pow_right (by decide) h
      rw [Nat.testBit_lt_two_pow (show 2 ^ k + r < 2 ^ i by omega), Nat.testBit_lt_two_pow (show r < 2 ^ i by omega)]
      simp [show ¬ k = i by omega]
  have b1 := wb_lt2 (show k + 1 < 64 by omega)
  have b2 := wb_lt2 (show k < 64 by omega)
  apply wb_inj
  rw [Int64.toBitVec_xor, wb_tb, wb_tb, wb_tb]
  apply BitVec.eq_of_toNat_eq
  rw [BitVec.toNat_xor, BitVec.toNat_ofNat, BitVec.toNat_ofNat, BitVec.toNat_ofNat, Nat.mod_eq_of_lt (by omega : 2 ^ k + r < 2 ^ 64), Nat.mod_eq_of_lt b2, hx, Nat.add_sub_cancel_left, Nat.mod_eq_of_lt (by omega)]
/-! ===== lN: masks, 'or' of parts that don't overlap is a sum ===== -/
theorem u_tn {n : Nat} (h : n < 2 ^ 64) : (UInt64.ofNat n).toNat = n := Nat.mod_eq_of_lt h
theorem g_and {a b c : Nat} (ha : a < 2 ^ 64) (hb : b < 2 ^ 64) (hc : a &&& b = c) : lN a &&& lN b = lN c := by
  subst hc
  have h : UInt64.ofNat a &&& UInt64.ofNat b = UInt64.ofNat (a &&& b) := UInt64.toNat_inj.mp (by rw [UInt64.toNat_and, u_tn ha, u_tn hb, u_tn (Nat.and_lt_two_pow a hb)])
  have h2 := congrArg UInt64.toInt64 h
  exact h2
theorem g_and1 {a : Nat} (ha : a < 2 ^ 64) : lN a &&& 1 = lN (a % 2) := g_and (b := 1) ha (by decide) (Nat.and_two_pow_sub_one_eq_mod a 1)
theorem g_mask {a s p : Nat} (hp : 2 ^ s = p) (hs : s < 64) (ha : a < 2 ^ 64) : lN a &&& lN (p - 1) = lN (a % p) := by
  subst hp
  have := Nat.pow_lt_pow_right (show 1 < 2 by decide) hs
  exact g_and ha (by omega) (Nat.and_two_pow_sub_one_eq_mod a s)
theorem g_or {k p a b : Nat} (hp : 2 ^ k = p) (ha : a < p) (h : b * p + a < 2 ^ 64) : lN (b * p) ||| lN a = lN (b * p + a) := by
  subst hp
  have h1 : b * 2 ^ k ||| a = b * 2 ^ k + a := by rw [← Nat.shiftLeft_eq, Nat.shiftLeft_add_eq_or_of_lt ha]
  have h3 : UInt64.ofNat (b * 2 ^ k) ||| UInt64.ofNat a = UInt64.ofNat (b * 2 ^ k + a) := UInt64.toNat_inj.mp (by rw [UInt64.toNat_or, u_tn (by omega), u_tn (by omega), u_tn h, h1])
  have h2 := congrArg UInt64.toInt64 h3
  exact h2
theorem g_or' {k p a b : Nat} (hp : 2 ^ k = p) (ha : a < p) (h : a + b * p < 2 ^ 64) : lN a ||| lN (b * p) = lN (a + b * p) := by
  rw [Int64.or_comm, g_or hp ha (by omega), Nat.add_comm]
theorem g_ushr {a k p : Nat} {y : UInt64} (hy : y = UInt64.ofNat k) (hk : k < 64) (hp : 2 ^ k = p) (ha : a < 2 ^ 64) : ((lN a).toUInt64 >>> y).toInt64 = lN (a / p) := by
  subst hy hp
  have h : UInt64.ofNat a >>> UInt64.ofNat k = UInt64.ofNat (a / 2 ^ k) := UInt64.toNat_inj.mp (by rw [UInt64.toNat_shiftRight, u_tn ha, u_tn (by omega), u_tn (Nat.lt_of_le_of_lt (Nat.div_le_self _ _) ha), Nat.mod_eq_of_lt hk, Nat.shiftRight_eq_div_pow])
  have h2 := congrArg UInt64.toInt64 h
  exact h2
theorem g_shl {a k p : Nat} {y : Int64} (hy : y.toBitVec.smod 64 = BitVec.ofNat 64 k) (hk : k < 64) (hp : 2 ^ k = p) (ha : a < 2 ^ 64) : lN a <<< y = lN (a * p) := by
  subst hp
  apply Int64.toBitVec_inj.mp
  rw [Int64.toBitVec_shiftLeft, hy]
  apply BitVec.eq_of_toNat_eq
  have hb : (lN a).toBitVec.toNat = a := Nat.mod_eq_of_lt ha
  have hk' : (BitVec.ofNat 64 k).toNat = k := Nat.mod_eq_of_lt (by omega)
  have h : ((lN a).toBitVec <<< BitVec.ofNat 64 k).toNat = (a * 2 ^ k) % 2 ^ 64 := by simp only [BitVec.shiftLeft_eq', BitVec.toNat_shiftLeft, hb, hk', Nat.shiftLeft_eq]
  exact h
/-! ===== lN to 2^62 under >> and >>> ===== -/
theorem pf_lI {a : Nat} (h : a < 2 ^ 63) : (lN a).toInt = (a : Int) := lg_ofNat_toInt h
theorem pf_shr {a d : Nat} {D : Int64} (hD : (D.toBitVec.smod 64).toNat = d) (h : a < 2 ^ 62) : lN a >>> D = lN (a / 2 ^ d) := by
  have hd : a / 2 ^ d ≤ a := Nat.div_le_self _ _
  apply Int64.toInt_inj.mp
  have e : (lN a >>> D).toInt = (lN a).toInt >>> d := by
    rw [← hD]
    exact BitVec.toInt_sshiftRight ..
  rw [e, Int.shiftRight_eq_div_pow, pf_lI (by omega), pf_lI (by omega)]
  rfl
theorem pf_ushr {a d : Nat} {D : UInt64} (hD : D.toNat % 64 = d) (h : a < 2 ^ 62) : ((lN a).toUInt64 >>> D).toInt64 = lN (a / 2 ^ d) := by
  have hd : a / 2 ^ d ≤ a := Nat.div_le_self _ _
  have e : (lN a).toUInt64 >>> D = UInt64.ofNat (a / 2 ^ d) := UInt64.toNat_inj.mp (by
    rw [UInt64.toNat_shiftRight, hD, Nat.shiftRight_eq_div_pow, UInt64.toNat_ofNat']
    show (UInt64.ofNat a).toNat / 2 ^ d = _
    rw [UInt64.toNat_ofNat', Nat.mod_eq_of_lt (by omega), Nat.mod_eq_of_lt (by omega)])
  rw [e]
  rfl
theorem pf_andw (x : Int64) : ∃ m, m < 2 ^ 32 ∧ x &&& 4294967295 = lN m := ⟨x.toBitVec.toNat % 2 ^ 32, Nat.mod_lt _ (by decide), Int64.toBitVec_inj.mp (BitVec.eq_of_toNat_eq (by
  show (x.toBitVec &&& 4294967295#64).toNat = (BitVec.ofNat 64 (x.toBitVec.toNat % 2 ^ 32)).toNat
  rw [BitVec.toNat_and, show (4294967295#64).toNat = 2 ^ 32 - 1 from by decide, Nat.and_two_pow_sub_one_eq_mod, BitVec.toNat_ofNat]
  omega))⟩
/-! ===== Int64 as an unsigned number: uN x ===== -/
def uN (x : Int64) : Nat := x.toUInt64.toNat
theorem uN_lt (x : Int64) : uN x < 18446744073709551616 := x.toUInt64.toNat_lt
theorem uN_inj {x y : Int64} (h : uN x = uN y) : x = y := congrArg UInt64.toInt64 (UInt64.toNat_inj.mp h)
theorem uN_add (x y : Int64) : uN (x + y) = (uN x + uN y) % 18446744073709551616 := by
  show (x.toUInt64 + y.toUInt64).toNat = _
  exact UInt64.toNat_add _ _
theorem uN_mul (x y : Int64) : uN (x * y) = (uN x * uN y) % 18446744073709551616 := by
  show (x.toUInt64 * y.toUInt64).toNat = _
  exact UInt64.toNat_mul _ _
theorem uN_shl (x : Int64) : uN (x <<< ((1 : Int32).toInt64 &&& 63)) = (2 * uN x) % 18446744073709551616 := by
  have h : (((1 : Int32).toInt64 &&& 63).toBitVec.smod 64).toNat = 1 := by decide
  show (x.toBitVec <<< (((1 : Int32).toInt64 &&& 63).toBitVec.smod 64).toNat).toNat = _
  rw [h, BitVec.toNat_shiftLeft, Nat.shiftLeft_eq, Nat.mul_comm]
  rfl
theorem uN_shr (x : Int64) (s : UInt64) : uN (x.toUInt64 >>> s).toInt64 = uN x / 2 ^ (s.toNat % 64) := by
  show (x.toUInt64 >>> s).toNat = _
  rw [UInt64.toNat_shiftRight, Nat.shiftRight_eq_div_pow]
  rfl
theorem uN_s32 (x : Int64) : uN (x.toUInt64 >>> ((32 : Int32).toInt64.toUInt64 &&& Int64.toUInt64 63)).toInt64 = uN x / 4294967296 := by
  have h : ((32 : Int32).toInt64.toUInt64 &&& Int64.toUInt64 63).toNat % 64 = 32 := by decide
  rw [uN_shr, h]
theorem uN_s63 (x : Int64) : uN (x.toUInt64 >>> ((63 : Int32).toInt64.toUInt64 &&& Int64.toUInt64 63)).toInt64 = uN x / 9223372036854775808 := by
  have h : ((63 : Int32).toInt64.toUInt64 &&& Int64.toUInt64 63).toNat % 64 = 63 := by decide
  rw [uN_shr, h]
theorem uN_lo (x : Int64) : uN (x &&& 4294967295) = uN x % 4294967296 := by
  show (x.toUInt64 &&& Int64.toUInt64 4294967295).toNat = _
  rw [UInt64.toNat_and]
  exact Nat.and_two_pow_sub_one_eq_mod _ 32
theorem uN_bit (x : Int64) : (x &&& 1) = 0 ↔ uN x % 2 = 0 := by
  have h : uN (x &&& 1) = uN x % 2 := by
    show (x.toUInt64 &&& Int64.toUInt64 1).toNat = _
    rw [UInt64.toNat_and]
    exact Nat.and_two_pow_sub_one_eq_mod _ 1
  rw [← h]
  exact ⟨fun z => by rw [z]; rfl, fun z => uN_inj (z.trans rfl)⟩
theorem uN_or {x y : Int64} (hy : uN y < 2) : uN ((x <<< ((1 : Int32).toInt64 &&& 63)) ||| y) = (2 * uN x) % 18446744073709551616 + uN y := by
  have h1 : uN ((x <<< ((1 : Int32).toInt64 &&& 63)) ||| y) = uN (x <<< ((1 : Int32).toInt64 &&& 63)) ||| uN y := UInt64.toNat_or _ _
  have h2 : (2 * uN x) % 18446744073709551616 = 2 ^ 1 * (uN x % 9223372036854775808) := by omega
  rw [h1, uN_shl, h2]
  exact (Nat.two_pow_add_eq_or_of_lt (i := 1) hy _).symm
theorem nat_xor {a : Nat} (h : a < 18446744073709551616) : a ^^^ 2 ^ 63 = (a + 9223372036854775808) % 18446744073709551616 := by
  have h1 : (a ^^^ 2 ^ 63) % 2 ^ 63 = a % 2 ^ 63 := by rw [Nat.xor_mod_two_pow, Nat.mod_self, Nat.xor_zero]
  have h2 : (a ^^^ 2 ^ 63) / 2 ^ 63 = (a / 2 ^ 63) ^^^ 1 := by rw [Nat.xor_div_two_pow, Nat.div_self (Nat.two_pow_pos 63)]
  have h3 : a / 2 ^ 63 = 0 ∨ a / 2 ^ 63 = 1 := by omega
  generalize a ^^^ 2 ^ 63 = t at h1 h2
  rcases h3 with h3 | h3
  · rw [h3] at h2
    have h2 : t / 2 ^ 63 = 1 := h2
    omega
  · rw [h3] at h2
    have h2 : t / 2 ^ 63 = 0 := h2
    omega
theorem uN_xor (x : Int64) : uN (x ^^^ (-9223372036854775808)) = (uN x + 9223372036854775808) % 18446744073709551616 := by
  rw [← nat_xor (uN_lt x)]
  exact UInt64.toNat_xor _ _
theorem uN_int (x : Int64) : x.toInt = if 2 * uN x < 18446744073709551616 then (uN x : Int) else (uN x : Int) - 18446744073709551616 := BitVec.toInt_eq_toNat_cond _
theorem uN_le (x y : Int64) : (x ^^^ (-9223372036854775808)) ≤ (y ^^^ (-9223372036854775808)) ↔ uN x ≤ uN y := by
  have hx := uN_lt x
  have hy := uN_lt y
  rw [Int64.le_iff_toInt_le, uN_int, uN_int, uN_xor, uN_xor]
  omega
theorem uN_sk (x : Int64) {k : Nat} (hk : k < 64) : uN (x.toUInt64 >>> ((nI k).toInt64.toUInt64 &&& Int64.toUInt64 63)).toInt64 = uN x / 2 ^ k := by
  have h : ((nI k).toInt64.toUInt64 &&& Int64.toUInt64 63).toNat % 64 = k := by
    rw [nI_l (by omega), UInt64.toNat_and]
    have e : (lN k).toUInt64.toNat = k % 2 ^ 64 := rfl
    have e2 : (Int64.toUInt64 63).toNat = 2 ^ 6 - 1 := by decide
    rw [e, e2, Nat.and_two_pow_sub_one_eq_mod]
    omega
  rw [uN_shr, h]
/-! ===== unsigned comparison by xor with the least ===== -/
theorem lN_bv (n : Nat) : (lN n).toBitVec = BitVec.ofNat 64 n := rfl
theorem lN_nat {n : Nat} (h : n < 2 ^ 64) : (lN n).toBitVec.toNat = n := by rw [lN_bv, BitVec.toNat_ofNat]; exact Nat.mod_eq_of_lt h
theorem lN_xor (a b : Nat) : lN a ^^^ lN b = lN (a ^^^ b) := by
  apply Int64.toBitVec_inj.mp; rw [Int64.toBitVec_xor, lN_bv, lN_bv, lN_bv]; apply BitVec.eq_of_getLsbD_eq; intro i hi; simp [BitVec.getLsbD_ofNat, Nat.testBit_xor, hi]
theorem lN_ti {m : Nat} (h : m < 2 ^ 64) : (lN m).toInt = if m < 2 ^ 63 then (m : Int) else (m : Int) - 2 ^ 64 := by
  have c := BitVec.toInt_eq_toNat_cond (lN m).toBitVec
  rw [lN_nat h] at c
  show (lN m).toBitVec.toInt = _
  rw [c]
  split <;> split <;> omega
theorem xor63 {x : Nat} (h : x < 2 ^ 63) : x ^^^ 2 ^ 63 = 2 ^ 63 + x := by
  apply Nat.eq_of_testBit_eq
  intro i
  rw [Nat.testBit_xor, Nat.testBit_two_pow]
  rcases Nat.lt_trichotomy i 63 with z | z | z
  · rw [Nat.testBit_two_pow_add_gt z, decide_eq_false (by omega)]; simp
  · subst z; rw [Nat.testBit_two_pow_add_eq]; simp
  · have hp : 2 ^ 64 ≤ 2 ^ i := Nat.pow_le_pow_right (by decide) z
    rw [Nat.testBit_lt_two_pow (show x < 2 ^ i by omega), Nat.testBit_lt_two_pow (show 2 ^ 63 + x < 2 ^ i by omega), decide_eq_false (by omega)]; rfl
theorem xorS {a : Nat} (h : a < 2 ^ 64) : (lN a ^^^ (-9223372036854775808)).toInt = (a : Int) - 2 ^ 63 := by
  rw [show (-9223372036854775808 : Int64) = lN (2 ^ 63) from by decide +kernel, lN_xor]
  rcases Nat.lt_or_ge a (2 ^ 63) with z | z
  · rw [xor63 z, lN_ti (by omega), if_neg (by omega)]; omega
  · obtain ⟨x, rfl⟩ : ∃ x, a = 2 ^ 63 + x := ⟨a - 2 ^ 63, by omega⟩
    rw [← xor63 (by omega), Nat.xor_assoc, Nat.xor_self, Nat.xor_zero, lN_ti (by omega), if_pos (by omega), xor63 (by omega)]; omega
theorem ultL {a b : Nat} (ha : a < 2 ^ 64) (hb : b < 2 ^ 64) : ((lN b ^^^ (-9223372036854775808)) ≤ (lN a ^^^ (-9223372036854775808))) ↔ b ≤ a := by
  rw [Int64.le_iff_toInt_le, xorS ha, xorS hb]; omega
/-! ===== Int64 masks of n low bits ===== -/
theorem cr_bits (W U M : BitVec 64) : ((W &&& U) &&& (U &&& (M ^^^ BitVec.allOnes 64))) = 0#64 ↔ (W &&& U) &&& M = W &&& U := by
  constructor
  · intro h
    apply BitVec.eq_of_getLsbD_eq
    intro i hi
    have e := congrArg (fun x => BitVec.getLsbD x i) h
    simp only [BitVec.getLsbD_and, BitVec.getLsbD_xor, BitVec.getLsbD_allOnes, BitVec.getLsbD_zero, hi, decide_true] at e ⊢
    revert e
    cases W.getLsbD i <;> cases U.getLsbD i <;> cases M.getLsbD i <;> decide
  · intro h
    apply BitVec.eq_of_getLsbD_eq
    intro i hi
    have e := congrArg (fun x => BitVec.getLsbD x i) h
    simp only [BitVec.getLsbD_and, BitVec.getLsbD_xor, BitVec.getLsbD_allOnes, BitVec.getLsbD_zero, hi, decide_true] at e ⊢
    revert e
    cases W.getLsbD i <;> cases U.getLsbD i <;> cases M.getLsbD i <;> decide
theorem cr_mask (w U m : Int64) (n : Nat) (hm : m.toBitVec.toNat = 2 ^ n - 1) : ((w &&& U) &&& (U &&& (m ^^^ (-1)))) = 0 ↔ (w &&& U).toBitVec.toNat < 2 ^ n := by
  have e0 : (-1 : Int64).toBitVec = BitVec.allOnes 64 := by decide
  have z0 : (0 : Int64).toBitVec = 0#64 := by decide
  rw [← Int64.toBitVec_inj, z0, Int64.toBitVec_and, Int64.toBitVec_and, Int64.toBitVec_and, Int64.toBitVec_xor, e0, cr_bits]
  generalize w.toBitVec &&& U.toBitVec = T
  rw [← BitVec.toNat_inj, BitVec.toNat_and, hm, Nat.and_two_pow_sub_one_eq_mod]
  constructor
  · intro h
    have t := Nat.mod_lt T.toNat (Nat.two_pow_pos n)
    rw [h] at t
    exact t
  · exact Nat.mod_eq_of_lt
theorem cr_shr (t : Int64) (x : UInt64) (n : Nat) (hx : x.toNat % 64 = n) : (t.toUInt64 >>> x).toInt64 = 0 ↔ t.toBitVec.toNat < 2 ^ n := by
  rw [← Int64.toBitVec_inj, ← BitVec.toNat_inj]
  show (t.toUInt64 >>> x).toNat = 0 ↔ t.toUInt64.toNat < 2 ^ n
  rw [UInt64.toNat_shiftRight, hx, Nat.shiftRight_eq_div_pow]
  constructor
  · intro h
    have d : t.toUInt64.toNat / 2 ^ n < 1 := by
      rw [h]
      decide
    have e := (Nat.div_lt_iff_lt_mul (Nat.two_pow_pos n)).mp d
    rw [Nat.one_mul] at e
    exact e
  · exact Nat.div_eq_of_lt
theorem cr_amt (s : Int64) : ∃ n, n < 64 ∧ s &&& 63 = lN n ∧ (s.toUInt64 &&& Int64.toUInt64 63).toNat % 64 = n := by
  have e : (s.toUInt64 &&& Int64.toUInt64 63).toNat = s.toUInt64.toNat % 2 ^ 6 := by
    rw [UInt64.toNat_and, show (Int64.toUInt64 63).toNat = 2 ^ 6 - 1 from by decide, Nat.and_two_pow_sub_one_eq_mod]
  refine ⟨s.toUInt64.toNat % 2 ^ 6, by omega, ?_, by omega⟩
  rw [← Int64.toBitVec_inj, ← BitVec.toNat_inj]
  show (s.toUInt64 &&& Int64.toUInt64 63).toNat = (BitVec.ofNat 64 (s.toUInt64.toNat % 2 ^ 6)).toNat
  rw [e, BitVec.toNat_ofNat]
  omega
end
section
section ZNUM
/-! numbers, arrays of naturals, masks -/
def zn_A (f : Nat → Nat) : Nat → Int32 := fun i => nI (f i)
def zn_u (f : Nat → Nat) (k v : Nat) : Nat → Nat := fun j => if j = k then v else f j
theorem zn_us {f : Nat → Nat} {k v : Nat} : zn_u f k v k = v := if_pos rfl
theorem zn_un {f : Nat → Nat} {k v j : Nat} (h : j ≠ k) : zn_u f k v j = f j := if_neg h
theorem zn_upd (f : Nat → Nat) (k v : Nat) : upd (zn_A f) k (nI v) = zn_A (zn_u f k v) := by
  funext j
  show (if j = k then nI v else nI (f j)) = nI (if j = k then v else f j)
  by_cases h : j = k
  · rw [if_pos h, if_pos h]
  · rw [if_neg h, if_neg h]
def zn_b (b : Bool) : Int32 := cond b 1 0
theorem zn_b0 {b : Bool} : zn_b b = 0 ↔ b = false := by cases b <;> decide
theorem zn_b1 {b : Bool} : zn_b b = 1 ↔ b = true := by cases b <;> decide
theorem zn_bI {a b : Bool} : zn_b a = zn_b b ↔ a = b := by cases a <;> cases b <;> decide
theorem zn_bn (b : Bool) : vp_nar .boolean (zn_b b) = zn_b b := by cases b <;> decide
theorem zn_bn0 : vp_nar .boolean 0 = zn_b false := by decide
theorem zn_bn1 : vp_nar .boolean 1 = zn_b true := by decide
theorem zn_bN (b : Bool) : zn_b b = nI b.toNat := by cases b <;> decide
theorem zn_bt {b : Bool} (h : ¬ b = false) : b = true := by cases b <;> first | rfl | exact absurd rfl h
theorem zn_bf {b : Bool} (h : ¬ b = true) : b = false := by cases b <;> first | rfl | exact absurd rfl h
/-- a mask from its bits -/
def zn_mk : Nat → (Nat → Bool) → Nat
  | 0, _ => 0
  | k + 1, f => zn_mk k f ||| cond (f k) (2 ^ k) 0
theorem zn_mk_tb (f : Nat → Bool) (i : Nat) : ∀ k, (zn_mk k f).testBit i = (decide (i < k) && f i) := by
  intro k
  induction k with
  | zero => simp [zn_mk]
  | succ k ih =>
    show (zn_mk k f ||| cond (f k) (2 ^ k) 0).testBit i = _
    rw [Nat.testBit_or, ih]
    have hc : (cond (f k) (2 ^ k) 0).testBit i = (decide (i = k) && f k) := by
      cases hf : f k
      · simp
      · show (2 ^ k).testBit i = _
        rw [Nat.testBit_two_pow, Bool.and_true]
        by_cases h : k = i
        · rw [decide_eq_true h, decide_eq_true h.symm]
        · rw [decide_eq_false h, decide_eq_false (fun e => h e.symm)]
    rw [hc]
    rcases Nat.lt_trichotomy i k with h | h | h
    · rw [decide_eq_true h, decide_eq_true (show i < k + 1 by omega), decide_eq_false (show ¬ i = k by omega), Bool.false_and, Bool.or_false]
    · subst h
      rw [decide_eq_false (show ¬ i < i by omega), decide_eq_true (show i < i + 1 by omega), decide_eq_true rfl, Bool.false_and, Bool.false_or]
    · rw [decide_eq_false (show ¬ i < k by omega), decide_eq_false (show ¬ i < k + 1 by omega), decide_eq_false (show ¬ i = k by omega), Bool.false_and, Bool.false_and, Bool.or_false]
theorem zn_mk_in {f : Nat → Bool} {i k : Nat} (h : i < k) : (zn_mk k f).testBit i = f i := by rw [zn_mk_tb, decide_eq_true h, Bool.true_and]
theorem zn_mk_out {f : Nat → Bool} {i k : Nat} (h : k ≤ i) : (zn_mk k f).testBit i = false := by rw [zn_mk_tb, decide_eq_false (by omega), Bool.false_and]
theorem zn_mk_lt (k : Nat) (f : Nat → Bool) : zn_mk k f < 2 ^ k := Nat.lt_pow_two_of_testBit _ (fun _ hi => zn_mk_out hi)
theorem zn_pw {a b : Nat} (h : a ≤ b) : 2 ^ a ≤ 2 ^ b := Nat.pow_le_pow_right (by decide) h
theorem zn_mk_lt' {k b : Nat} (h : k ≤ b) (f : Nat → Bool) : zn_mk k f < 2 ^ b := Nat.lt_of_lt_of_le (zn_mk_lt k f) (zn_pw h)
theorem zn_mk_31 {k : Nat} (h : k ≤ 16) (f : Nat → Bool) : zn_mk k f < 2 ^ 31 := zn_mk_lt' (by omega) f
theorem zn_hb {m k i : Nat} (h : m < 2 ^ k) (hi : k ≤ i) : m.testBit i = false := Nat.testBit_lt_two_pow (Nat.lt_of_lt_of_le h (zn_pw hi))
theorem zn_mk_of {m k : Nat} {f : Nat → Bool} (h1 : m < 2 ^ k) (h : ∀ i, i < k → m.testBit i = f i) : m = zn_mk k f :=
  Nat.eq_of_testBit_eq fun i => by
    rw [zn_mk_tb]
    by_cases hi : i < k
    · rw [h i hi, decide_eq_true hi, Bool.true_and]
    · rw [zn_hb h1 (by omega), decide_eq_false hi, Bool.false_and]
theorem zn_mk_cg {k : Nat} {f g : Nat → Bool} (h : ∀ i, i < k → f i = g i) : zn_mk k f = zn_mk k g :=
  zn_mk_of (zn_mk_lt k f) (fun i hi => by rw [zn_mk_in hi, h i hi])
theorem zn_mk_0 {k : Nat} {f : Nat → Bool} (h : ∀ i, i < k → f i = false) : zn_mk k f = 0 :=
  Nat.eq_of_testBit_eq fun i => by
    rw [zn_mk_tb, Nat.zero_testBit]
    by_cases hi : i < k
    · rw [h i hi, Bool.and_false]
    · rw [decide_eq_false hi, Bool.false_and]
theorem zn_nz {m : Nat} : m = 0 ↔ ∀ i, m.testBit i = false := by
  constructor
  · intro h i; rw [h, Nat.zero_testBit]
  · intro h; exact Nat.eq_of_testBit_eq fun i => by rw [h i, Nat.zero_testBit]
/-- how many -/
def zn_c : Nat → (Nat → Bool) → Nat
  | 0, _ => 0
  | k + 1, f => zn_c k f + (f k).toNat
theorem zn_c_s (k : Nat) (f : Nat → Bool) : zn_c (k + 1) f = zn_c k f + (f k).toNat := rfl
theorem zn_c_le (f : Nat → Bool) : ∀ k, zn_c k f ≤ k := by
  intro k
  induction k with
  | zero => exact Nat.le_refl 0
  | succ k ih => rw [zn_c_s]; have := Bool.toNat_le (f k); omega
theorem zn_c_cg {f g : Nat → Bool} : ∀ k, (∀ i, i < k → f i = g i) → zn_c k f = zn_c k g := by
  intro k
  induction k with
  | zero => intro _; rfl
  | succ k ih => intro h; rw [zn_c_s, zn_c_s, ih (fun i hi => h i (by omega)), h k (by omega)]
theorem zn_c_0 {f : Nat → Bool} : ∀ k, (∀ i, i < k → f i = false) → zn_c k f = 0 := by
  intro k
  induction k with
  | zero => intro _; rfl
  | succ k ih => intro h; rw [zn_c_s, ih (fun i hi => h i (by omega)), h k (by omega)]; rfl
theorem zn_c_0' {f : Nat → Bool} : ∀ k, zn_c k f = 0 → ∀ i, i < k → f i = false := by
  intro k
  induction k with
  | zero => intro _ i hi; omega
  | succ k ih =>
    intro h i hi
    rw [zn_c_s] at h
    by_cases e : i = k
    · subst e
      cases hf : f i
      · rfl
      · rw [hf] at h; exact absurd h (by simp)
    · exact ih (by omega) i (by omega)
theorem zn_c_one {f g : Nat → Bool} {t : Nat} : ∀ k, t < k → f t = false → g t = true → (∀ i, i < k → i ≠ t → g i = f i) → zn_c k g = zn_c k f + 1 := by
  intro k
  induction k with
  | zero => intro h; omega
  | succ k ih =>
    intro ht h0 h1 h
    rw [zn_c_s, zn_c_s]
    by_cases e : t = k
    · subst e
      rw [h0, h1, zn_c_cg t (fun i hi => h i (by omega) (by omega))]
      rfl
    · rw [ih (by omega) h0 h1 (fun i hi hn => h i (by omega) hn), h k (by omega) (by omega)]
      omega
theorem zn_c_up {f : Nat → Bool} {k : Nat} : ∀ d, (∀ i, k ≤ i → f i = false) → zn_c (k + d) f = zn_c k f := by
  intro d h
  induction d with
  | zero => rfl
  | succ d ih =>
    show zn_c ((k + d) + 1) f = _
    rw [zn_c_s, ih, h (k + d) (by omega)]
    rfl
/-- is there one -/
def zn_any : Nat → (Nat → Bool) → Bool
  | 0, _ => false
  | k + 1, f => zn_any k f || f k
theorem zn_any_s (k : Nat) (f : Nat → Bool) : zn_any (k + 1) f = (zn_any k f || f k) := rfl
theorem zn_any_t {f : Nat → Bool} : ∀ k, zn_any k f = true ↔ ∃ i, i < k ∧ f i = true := by
  intro k
  induction k with
  | zero => exact ⟨fun h => absurd h (by simp [zn_any]), fun ⟨i, hi, _⟩ => by omega⟩
  | succ k ih =>
    rw [zn_any_s, Bool.or_eq_true, ih]
    constructor
    · rintro (⟨i, hi, h⟩ | h)
      · exact ⟨i, by omega, h⟩
      · exact ⟨k, by omega, h⟩
    · rintro ⟨i, hi, h⟩
      by_cases e : i = k
      · subst e; exact Or.inr h
      · exact Or.inl ⟨i, by omega, h⟩
theorem zn_any_f {f : Nat → Bool} {k : Nat} : zn_any k f = false ↔ ∀ i, i < k → f i = false := by
  constructor
  · intro h i hi
    cases hf : f i
    · rfl
    · have := (zn_any_t k).mpr ⟨i, hi, hf⟩
      rw [h] at this; exact this.symm
  · intro h
    cases ha : zn_any k f
    · rfl
    · obtain ⟨i, hi, hf⟩ := (zn_any_t k).mp ha
      rw [h i hi] at hf; exact hf.symm
theorem zn_any_cg {f g : Nat → Bool} : ∀ k, (∀ i, i < k → f i = g i) → zn_any k f = zn_any k g := by
  intro k
  induction k with
  | zero => intro _; rfl
  | succ k ih => intro h; rw [zn_any_s, zn_any_s, ih (fun i hi => h i (by omega)), h k (by omega)]
/-- the first from i on among k, or d -/
def zn_fi (f : Nat → Bool) (d : Nat) : Nat → Nat → Nat
  | 0, _ => d
  | k + 1, i => cond (f i) i (zn_fi f d k (i + 1))
theorem zn_fi_t {f : Nat → Bool} {d k i : Nat} (h : f i = true) : zn_fi f d (k + 1) i = i := by show cond (f i) _ _ = _; rw [h]; rfl
theorem zn_fi_n {f : Nat → Bool} {d k i : Nat} (h : f i = false) : zn_fi f d (k + 1) i = zn_fi f d k (i + 1) := by show cond (f i) _ _ = _; rw [h]; rfl
theorem zn_fi_sp {f : Nat → Bool} {d : Nat} : ∀ k i, (∃ j, i ≤ j ∧ j < i + k ∧ f j = true ∧ zn_fi f d k i = j ∧ ∀ x, i ≤ x → x < j → f x = false) ∨ (zn_fi f d k i = d ∧ ∀ x, i ≤ x → x < i + k → f x = false) := by
  intro k
  induction k with
  | zero => intro i; exact Or.inr ⟨rfl, fun x h1 h2 => by omega⟩
  | succ k ih =>
    intro i
    cases hf : f i
    · rw [zn_fi_n hf]
      rcases ih (i + 1) with ⟨j, h1, h2, h3, h4, h5⟩ | ⟨h1, h2⟩
      · refine Or.inl ⟨j, by omega, by omega, h3, h4, fun x a b => ?_⟩
        by_cases e : x = i
        · rw [e, hf]
        · exact h5 x (by omega) b
      · refine Or.inr ⟨h1, fun x a b => ?_⟩
        by_cases e : x = i
        · rw [e, hf]
        · exact h2 x (by omega) (by omega)
    · exact Or.inl ⟨i, Nat.le_refl i, by omega, hf, zn_fi_t hf, fun x a b => by omega⟩
theorem zn_fi_cg {f g : Nat → Bool} {d : Nat} : ∀ k i, (∀ x, i ≤ x → x < i + k → f x = g x) → zn_fi f d k i = zn_fi g d k i := by
  intro k
  induction k with
  | zero => intro i _; rfl
  | succ k ih =>
    intro i h
    show cond (f i) _ _ = cond (g i) _ _
    rw [h i (Nat.le_refl i) (by omega), ih (i + 1) (fun x a b => h x (by omega) (by omega))]
/-- the highest from k down to 1, or 0 -/
def zn_hi (f : Nat → Bool) : Nat → Nat
  | 0 => 0
  | k + 1 => cond (f (k + 1)) (k + 1) (zn_hi f k)
theorem zn_hi_t {f : Nat → Bool} {k : Nat} (h : f (k + 1) = true) : zn_hi f (k + 1) = k + 1 := by show cond _ _ _ = _; rw [h]; rfl
theorem zn_hi_n {f : Nat → Bool} {k : Nat} (h : f (k + 1) = false) : zn_hi f (k + 1) = zn_hi f k := by show cond _ _ _ = _; rw [h]; rfl
theorem zn_hi_sp {f : Nat → Bool} : ∀ k, (0 < zn_hi f k ∧ zn_hi f k ≤ k ∧ f (zn_hi f k) = true) ∨ zn_hi f k = 0 := by
  intro k
  induction k with
  | zero => exact Or.inr rfl
  | succ k ih =>
    cases hf : f (k + 1)
    · rw [zn_hi_n hf]
      rcases ih with ⟨a, b, e⟩ | h
      · exact Or.inl ⟨a, by omega, e⟩
      · exact Or.inr h
    · rw [zn_hi_t hf]; exact Or.inl ⟨by omega, by omega, hf⟩
theorem zn_hi_cg {f g : Nat → Bool} : ∀ k, (∀ i, 0 < i → i ≤ k → f i = g i) → zn_hi f k = zn_hi g k := by
  intro k
  induction k with
  | zero => intro _; rfl
  | succ k ih => intro h; show cond _ _ _ = cond _ _ _; rw [h (k + 1) (by omega) (by omega), ih (fun i a b => h i a (by omega))]
theorem zn_hi_up {f : Nat → Bool} {k : Nat} : ∀ d, (∀ i, k < i → f i = false) → zn_hi f (k + d) = zn_hi f k := by
  intro d h
  induction d with
  | zero => rfl
  | succ d ih =>
    show zn_hi f ((k + d) + 1) = _
    rw [zn_hi_n (h _ (by omega)), ih]
end ZNUM
end
section
section ZCONV
/-! masks and packed situations: the printed expressions as naturals -/
theorem zw_or (a b : Nat) : nI a ||| nI b = nI (a ||| b) := by
  apply Int32.toBitVec_inj.1
  show BitVec.ofNat 32 a ||| BitVec.ofNat 32 b = BitVec.ofNat 32 (a ||| b)
  apply BitVec.eq_of_getLsbD_eq
  intro i hi
  simp [hi]
theorem zw_m2 (z : Nat) : z % 2 = (decide (z % 2 = 1)).toNat := by
  rcases Nat.mod_two_eq_zero_or_one z with h | h
  · rw [h]; decide
  · rw [h]; decide
theorem zw_shr {m i : Nat} (hm : m < 2 ^ 31) (hi : i < 32) : (nI m >>> (nI i &&& 31)) &&& 1 = nI (m.testBit i).toNat := by
  rw [pk_shrN hm (nI i &&& 31) i (s_l i hi)]
  show nI (m / 2 ^ i) &&& nI 1 = _
  rw [nx_and, Nat.and_one_is_mod, Nat.testBit_eq_decide_div_mod_eq]
  exact congrArg nI (zw_m2 _)
theorem zw_bit {m i : Nat} (hm : m < 2 ^ 31) (hi : i < 32) : ((nI m >>> (nI i &&& 31)) &&& 1) = 0 ↔ m.testBit i = false := by
  rw [zw_shr hm hi]
  cases m.testBit i <;> decide
theorem zw_shl {k : Nat} (hk : k < 31) : (1 : Int32) <<< (nI k &&& 31) = nI (2 ^ k) := by
  have h := pk_shlN (n := 1) (nI k &&& 31) k (s_l k (by omega)) (by
    have := zn_pw (show k ≤ 31 by omega)
    omega)
  rw [Nat.one_mul] at h
  exact h
def zw_an (a b : Nat) : Nat := a &&& (b ^^^ (2 ^ 32 - 1))
theorem zw_andn (a b : Nat) : nI a &&& (nI b ^^^ (-1)) = nI (zw_an a b) := by
  show nI a &&& (nI b ^^^ nI (2 ^ 32 - 1)) = _
  rw [nx_xor, nx_and]
  rfl
theorem zw_an_tb {a b : Nat} (ha : a < 2 ^ 32) (i : Nat) : (zw_an a b).testBit i = (a.testBit i && !b.testBit i) := by
  unfold zw_an
  rw [Nat.testBit_and, Nat.testBit_xor, Nat.testBit_two_pow_sub_one]
  by_cases h : i < 32
  · rw [decide_eq_true h]; cases b.testBit i <;> rfl
  · rw [zn_hb ha (by omega), Bool.false_and, Bool.false_and]
theorem zw_an_lt {a b k : Nat} (ha : a < 2 ^ k) : zw_an a b < 2 ^ k := Nat.lt_of_le_of_lt Nat.and_le_left ha
/-! the last child of s in a packed situation -/
def zw_L (z s : Nat) : Nat := z / 2 ^ (12 + 4 * s) % 16
theorem zw_L_lt (z s : Nat) : zw_L z s < 16 := Nat.mod_lt _ (by decide)
theorem zw_L_tb (z s j : Nat) : (zw_L z s).testBit j = (decide (j < 4) && z.testBit (12 + 4 * s + j)) := by
  unfold zw_L
  rw [show (16 : Nat) = 2 ^ 4 from rfl, Nat.testBit_mod_two_pow, Nat.testBit_div_two_pow, Nat.add_comm j]
theorem zw_L_in (z s : Nat) {j : Nat} (h : j < 4) : z.testBit (12 + 4 * s + j) = (zw_L z s).testBit j := by
  rw [zw_L_tb, decide_eq_true h, Bool.true_and]
theorem zw_L_ext {z s r : Nat} (hr : r < 16) (h : ∀ j, j < 4 → z.testBit (12 + 4 * s + j) = r.testBit j) : zw_L z s = r := by
  apply Nat.eq_of_testBit_eq
  intro j
  rw [zw_L_tb]
  by_cases hj : j < 4
  · rw [decide_eq_true hj, Bool.true_and, h j hj]
  · rw [decide_eq_false hj, Bool.false_and, zn_hb (k := 4) hr (by omega)]
theorem zw_L_0 (s : Nat) : zw_L 0 s = 0 := zw_L_ext (by decide) (fun j _ => by rw [Nat.zero_testBit, Nat.zero_testBit])
theorem zw_z_ext {z z' : Nat} (hz : z < 2 ^ 60) (hz' : z' < 2 ^ 60) (h : ∀ s, s < 12 → z.testBit s = z'.testBit s ∧ zw_L z s = zw_L z' s) : z = z' := by
  apply Nat.eq_of_testBit_eq
  intro i
  by_cases h1 : i < 12
  · exact (h i h1).1
  · by_cases h2 : i < 60
    · have e : i = 12 + 4 * ((i - 12) / 4) + (i - 12) % 4 := by omega
      rw [e, zw_L_in z _ (Nat.mod_lt _ (by decide)), zw_L_in z' _ (Nat.mod_lt _ (by decide)), (h ((i - 12) / 4) (by omega)).2]
    · rw [zn_hb hz (by omega), zn_hb hz' (by omega)]
theorem zw_12 (s : Nat) : (12 : Int32) + 4 * nI s = nI (12 + 4 * s) := by
  show nI 12 + nI 4 * nI s = _
  rw [pk_mul, nI_add]
theorem zw_sm : ∀ k, k < 64 → (((nI k).toInt64 &&& 63).toBitVec.smod 64).toNat = k := by decide +kernel
theorem zw_lshr {z k : Nat} (hz : z < 2 ^ 60) (hk : k < 64) : lN z >>> ((nI k).toInt64 &&& 63) = lN (z / 2 ^ k) := pf_shr (zw_sm k hk) (by omega)
theorem zw_dle (z k : Nat) : z / 2 ^ k ≤ z := Nat.div_le_self _ _
theorem zw_last {z s : Nat} (hz : z < 2 ^ 60) (hs : s < 12) : (((lN z >>> ((12 + (4 * nI s)).toInt64 &&& 63)) &&& 15).toInt32) = nI (zw_L z s) := by
  rw [zw_12, zw_lshr hz (by omega)]
  have h := wb_mask (n := z / 2 ^ (12 + 4 * s)) (k := 4) (by have := zw_dle z (12 + 4 * s); omega) (by decide)
  have e15 : (15 : Int64) = lN (2 ^ 4 - 1) := by decide +kernel
  rw [e15, h, lN_i, show (2 : Nat) ^ 4 = 16 from rfl]
  rfl
theorem zw_act {z s : Nat} (hz : z < 2 ^ 60) (hs : s < 64) : (((lN z >>> ((nI s).toInt64 &&& 63)).toInt32) &&& 1) = zn_b (z.testBit s) := by
  rw [zw_lshr hz hs, lN_i]
  show nI (z / 2 ^ s) &&& nI 1 = _
  rw [nx_and, Nat.and_one_is_mod, Nat.testBit_eq_decide_div_mod_eq, zn_bN]
  exact congrArg nI (zw_m2 _)
theorem zw_lbit {z s : Nat} (hz : z < 2 ^ 60) (hs : s < 64) : (((lN z >>> ((nI s).toInt64 &&& 63)) &&& 1) = 0) ↔ z.testBit s = false := by
  rw [zw_lshr hz hs, wb_a1 (by have := zw_dle z s; omega)]
  show lN _ = lN 0 ↔ _
  rw [lN_eq (by have := Nat.mod_lt (z / 2 ^ s) (show 0 < 2 by decide); omega) (by decide), Nat.testBit_eq_decide_div_mod_eq, decide_eq_false_iff_not]
  generalize z / 2 ^ s = y
  omega
theorem zw_active {z : Nat} (hz : z < 2 ^ 60) : ((lN z &&& 4095).toInt32) = nI (z % 4096) := by
  have h := wb_mask (n := z) (k := 12) (by omega) (by decide)
  have e15 : (4095 : Int64) = lN (2 ^ 12 - 1) := by decide +kernel
  rw [e15, h, lN_i, show (2 : Nat) ^ 12 = 4096 from rfl]
theorem zw_a_tb (z i : Nat) : (z % 4096).testBit i = (decide (i < 12) && z.testBit i) := by
  rw [show (4096 : Nat) = 2 ^ 12 from rfl, Nat.testBit_mod_two_pow]
theorem zw_a_in (z : Nat) {i : Nat} (h : i < 12) : (z % 4096).testBit i = z.testBit i := by rw [zw_a_tb, decide_eq_true h, Bool.true_and]
/-! the last child of s replaced -/
def zw_rc (z s ch : Nat) : Nat := (z &&& ((15 <<< (12 + 4 * s)) ^^^ (2 ^ 64 - 1))) ||| (ch <<< (12 + 4 * s))
theorem zw_shlt {a k b : Nat} (ha : a < 2 ^ b) (h : k + b ≤ 64) : a <<< k < 2 ^ 64 := by
  rw [Nat.shiftLeft_eq]
  have h1 : a * 2 ^ k < 2 ^ b * 2 ^ k := Nat.mul_lt_mul_of_pos_right ha (Nat.two_pow_pos k)
  rw [← Nat.pow_add] at h1
  exact Nat.lt_of_lt_of_le h1 (zn_pw (by omega))
theorem zw_rem {z s ch : Nat} (hz : z < 2 ^ 60) (hs : s < 12) (hc : ch < 16) : ((lN z &&& (((15 : Int64) <<< ((12 + (4 * nI s)).toInt64 &&& 63)) ^^^ (-1))) ||| ((nI ch).toInt64 <<< ((12 + (4 * nI s)).toInt64 &&& 63))) = lN (zw_rc z s ch) := by
  have e0 : (nI ch).toInt64 = lN ch := nI_l (by omega)
  rw [zw_12, e0]
  have e1 : (15 : Int64) <<< ((nI (12 + 4 * s)).toInt64 &&& 63) = lN (15 <<< (12 + 4 * s)) := by
    rw [Nat.shiftLeft_eq]
    exact wb_shl 15 (by omega)
  have e2 : lN ch <<< ((nI (12 + 4 * s)).toInt64 &&& 63) = lN (ch <<< (12 + 4 * s)) := by
    rw [Nat.shiftLeft_eq]
    exact wb_shl ch (by omega)
  have e3 : (-1 : Int64) = lN (2 ^ 64 - 1) := by decide +kernel
  have b1 : 15 <<< (12 + 4 * s) < 2 ^ 64 := zw_shlt (b := 4) (by decide) (by omega)
  have b2 : ch <<< (12 + 4 * s) < 2 ^ 64 := zw_shlt (b := 4) hc (by omega)
  have b3 : (15 <<< (12 + 4 * s)) ^^^ (2 ^ 64 - 1) < 2 ^ 64 := Nat.xor_lt_two_pow b1 (by decide)
  rw [e1, e2, e3, lN_xor, wb_and (by omega) b3, wb_or (Nat.and_lt_two_pow _ b3) b2]
  rfl
theorem zw_rc_tb {z s ch : Nat} (hz : z < 2 ^ 60) (hc : ch < 16) (i : Nat) : (zw_rc z s ch).testBit i = if 12 + 4 * s ≤ i ∧ i < 16 + 4 * s then ch.testBit (i - (12 + 4 * s)) else z.testBit i := by
  unfold zw_rc
  rw [Nat.testBit_or, Nat.testBit_and, Nat.testBit_xor, Nat.testBit_shiftLeft, Nat.testBit_shiftLeft, Nat.testBit_two_pow_sub_one, show (15 : Nat) = 2 ^ 4 - 1 from rfl, Nat.testBit_two_pow_sub_one]
  by_cases h1 : 12 + 4 * s ≤ i
  · by_cases h2 : i < 16 + 4 * s
    · rw [if_pos ⟨h1, h2⟩, decide_eq_true (show i ≥ 12 + 4 * s from h1), decide_eq_true (show i - (12 + 4 * s) < 4 by omega)]
      by_cases h3 : i < 64
      · rw [decide_eq_true h3]; simp
      · rw [zn_hb hz (by omega)]; simp
    · rw [if_neg (by omega), decide_eq_true (show i ≥ 12 + 4 * s from h1), decide_eq_false (show ¬ i - (12 + 4 * s) < 4 by omega), zn_hb (m := ch) (k := 4) hc (by omega)]
      by_cases h3 : i < 64
      · rw [decide_eq_true h3]; simp
      · rw [zn_hb hz (by omega)]; simp
  · rw [if_neg (by omega), decide_eq_false (show ¬ i ≥ 12 + 4 * s from h1)]
    by_cases h3 : i < 64
    · rw [decide_eq_true h3]; simp
    · rw [zn_hb hz (by omega)]; simp
theorem zw_rc_lt {z s ch : Nat} (hz : z < 2 ^ 60) (hs : s < 12) (hc : ch < 16) : zw_rc z s ch < 2 ^ 60 :=
  Nat.lt_pow_two_of_testBit _ (fun i hi => by rw [zw_rc_tb hz hc, if_neg (by omega), zn_hb hz hi])
theorem zw_rc_a {z s ch : Nat} (hz : z < 2 ^ 60) (hc : ch < 16) {i : Nat} (hi : i < 12) : (zw_rc z s ch).testBit i = z.testBit i := by
  rw [zw_rc_tb hz hc, if_neg (by omega)]
theorem zw_rc_L {z s ch : Nat} (hz : z < 2 ^ 60) (hc : ch < 16) (x : Nat) : zw_L (zw_rc z s ch) x = if x = s then ch else zw_L z x := by
  by_cases h : x = s
  · rw [if_pos h]
    subst h
    apply zw_L_ext hc
    intro j hj
    rw [zw_rc_tb hz hc, if_pos (by omega)]
    congr 1; omega
  · rw [if_neg h]
    apply zw_L_ext (zw_L_lt _ _)
    intro j hj
    rw [zw_rc_tb hz hc, if_neg (by omega), zw_L_in z x hj]
/-! the active states replaced -/
def zw_ra (z a : Nat) : Nat := (z &&& (2 ^ 64 - 4096)) ||| a
theorem zw_rep {z a : Nat} (hz : z < 2 ^ 60) (ha : a < 2 ^ 12) : ((lN z &&& (-4096)) ||| (nI a).toInt64) = lN (zw_ra z a) := by
  have e : (-4096 : Int64) = lN (2 ^ 64 - 4096) := by decide +kernel
  rw [e, nI_l (by omega), wb_and (by omega) (by decide), wb_or (Nat.and_lt_two_pow _ (by decide)) (by omega)]
  rfl
theorem zw_hm (i : Nat) : (2 ^ 64 - 4096).testBit i = (decide (12 ≤ i) && decide (i < 64)) := by
  rw [show 2 ^ 64 - 4096 = (2 ^ 52 - 1) <<< 12 from by decide, Nat.testBit_shiftLeft, Nat.testBit_two_pow_sub_one]
  by_cases h : 12 ≤ i
  · rw [decide_eq_true h]
    by_cases h2 : i < 64
    · rw [decide_eq_true h2, decide_eq_true (show i - 12 < 52 by omega)]
    · rw [decide_eq_false h2, decide_eq_false (show ¬ i - 12 < 52 by omega)]
  · rw [decide_eq_false h, Bool.false_and, Bool.false_and]
theorem zw_ra_tb {z a : Nat} (hz : z < 2 ^ 60) (ha : a < 2 ^ 12) (i : Nat) : (zw_ra z a).testBit i = if i < 12 then a.testBit i else z.testBit i := by
  unfold zw_ra
  rw [Nat.testBit_or, Nat.testBit_and, zw_hm]
  by_cases h : i < 12
  · rw [if_pos h, decide_eq_false (show ¬ 12 ≤ i by omega)]; simp
  · rw [if_neg h, decide_eq_true (show 12 ≤ i by omega), zn_hb ha (by omega)]
    by_cases h2 : i < 64
    · rw [decide_eq_true h2]; simp
    · rw [zn_hb hz (by omega)]; simp
theorem zw_ra_lt {z a : Nat} (hz : z < 2 ^ 60) (ha : a < 2 ^ 12) : zw_ra z a < 2 ^ 60 :=
  Nat.lt_pow_two_of_testBit _ (fun i hi => by rw [zw_ra_tb hz ha, if_neg (by omega), zn_hb hz hi])
theorem zw_ra_L {z a : Nat} (hz : z < 2 ^ 60) (ha : a < 2 ^ 12) (x : Nat) : zw_L (zw_ra z a) x = zw_L z x := by
  apply zw_L_ext (zw_L_lt _ _)
  intro j hj
  rw [zw_ra_tb hz ha, if_neg (by omega), zw_L_in z x hj]
theorem zw_ra_a {z a : Nat} (hz : z < 2 ^ 60) (ha : a < 2 ^ 12) {i : Nat} (hi : i < 12) : (zw_ra z a).testBit i = a.testBit i := by
  rw [zw_ra_tb hz ha, if_pos hi]
theorem zw_ra_id {z : Nat} (hz : z < 2 ^ 60) : zw_ra z (z % 4096) = z := by
  apply Nat.eq_of_testBit_eq
  intro i
  rw [zw_ra_tb hz (Nat.mod_lt _ (by decide))]
  by_cases h : i < 12
  · rw [if_pos h, zw_a_in z h]
  · rw [if_neg h]
/-! two bits at once -/
theorem zw_both {z s1 s2 : Nat} (hz : z < 2 ^ 60) (h1 : s1 < 12) (h2 : s2 < 12) : ((lN z &&& (((1 : Int64) <<< ((nI s1).toInt64 &&& 63)) ||| ((1 : Int64) <<< ((nI s2).toInt64 &&& 63)))) = (((1 : Int64) <<< ((nI s1).toInt64 &&& 63)) ||| ((1 : Int64) <<< ((nI s2).toInt64 &&& 63)))) ↔ (z.testBit s1 && z.testBit s2) = true := by
  have e1 : (1 : Int64) <<< ((nI s1).toInt64 &&& 63) = lN (2 ^ s1) := by
    have := wb_shl 1 (show s1 < 64 by omega)
    rw [Nat.one_mul] at this; exact this
  have e2 : (1 : Int64) <<< ((nI s2).toInt64 &&& 63) = lN (2 ^ s2) := by
    have := wb_shl 1 (show s2 < 64 by omega)
    rw [Nat.one_mul] at this; exact this
  have p1 : 2 ^ s1 < 2 ^ 12 := Nat.pow_lt_pow_right (by decide) h1
  have p2 : 2 ^ s2 < 2 ^ 12 := Nat.pow_lt_pow_right (by decide) h2
  have p3 : 2 ^ s1 ||| 2 ^ s2 < 2 ^ 12 := Nat.or_lt_two_pow p1 p2
  rw [e1, e2, wb_or (by omega) (by omega), wb_and (by omega) (by omega), pk_lEQ (by have := Nat.and_le_left (n := z) (m := 2 ^ s1 ||| 2 ^ s2); omega) (by omega)]
  constructor
  · intro h
    have a1 := congrArg (fun y => y.testBit s1) h
    have a2 := congrArg (fun y => y.testBit s2) h
    simp only [Nat.testBit_and, Nat.testBit_or, Nat.testBit_two_pow, decide_true, Bool.true_or, Bool.or_true, Bool.and_true] at a1 a2
    rw [a1, a2]; rfl
  · intro h
    rw [Bool.and_eq_true] at h
    apply Nat.eq_of_testBit_eq
    intro i
    rw [Nat.testBit_and, Nat.testBit_or, Nat.testBit_two_pow, Nat.testBit_two_pow]
    by_cases c1 : s1 = i
    · subst c1; rw [h.1]; simp
    · by_cases c2 : s2 = i
      · subst c2; rw [h.2]; simp
      · simp [c1, c2]
theorem zw_lne {a b : Nat} (ha : a < 2 ^ 60) (hb : b < 2 ^ 60) : lN a = lN b ↔ a = b := pk_lEQ (by omega) (by omega)
end ZCONV
end
section
section ZTREE
/-! the tree of states, given by parents: p s < s for 0 < s < n -/
def zc_P (p : Nat → Nat) (n : Nat) : Prop := n ≤ 12 ∧ ∀ s, 0 < s → s < n → p s < s
def zc_abF (p : Nat → Nat) (a : Nat) : Nat → Nat → Bool
  | 0, _ => false
  | k + 1, s => if s = 0 then false else (decide (p s = a) || zc_abF p a k (p s))
/-- a is a proper ancestor of s -/
def zc_AB (p : Nat → Nat) (a s : Nat) : Bool := zc_abF p a 12 s
theorem zc_abF_0 (p : Nat → Nat) (a : Nat) : ∀ k, zc_abF p a k 0 = false := by
  intro k
  cases k with
  | zero => rfl
  | succ k => exact if_pos rfl
theorem zc_abF_s (p : Nat → Nat) (a k : Nat) {s : Nat} (h : ¬ s = 0) : zc_abF p a (k + 1) s = (decide (p s = a) || zc_abF p a k (p s)) := if_neg h
variable {p : Nat → Nat} {n : Nat}
theorem zc_abF_st (hp : zc_P p n) {a : Nat} : ∀ k k' s, s < n → s ≤ k → s ≤ k' → zc_abF p a k s = zc_abF p a k' s := by
  intro k
  induction k with
  | zero =>
    intro k' s _ h1 _
    have e : s = 0 := by omega
    subst e
    rw [zc_abF_0, zc_abF_0]
  | succ k ih =>
    intro k' s hs h1 h2
    by_cases h : s = 0
    · subst h; rw [zc_abF_0, zc_abF_0]
    · cases k' with
      | zero => omega
      | succ k' =>
        have := hp.2 s (by omega) hs
        rw [zc_abF_s p a k h, zc_abF_s p a k' h, ih k' (p s) (by omega) (by omega) (by omega)]
theorem zc_AB_0 (p : Nat → Nat) (a : Nat) : zc_AB p a 0 = false := zc_abF_0 p a 12
theorem zc_AB_s (hp : zc_P p n) {a s : Nat} (h0 : 0 < s) (hs : s < n) : zc_AB p a s = (decide (p s = a) || zc_AB p a (p s)) := by
  have h1 := hp.2 s h0 hs
  have h2 := hp.1
  show zc_abF p a 12 s = (decide (p s = a) || zc_abF p a 12 (p s))
  rw [zc_abF_s p a 11 (by omega), zc_abF_st hp 11 12 (p s) (by omega) (by omega) (by omega)]
theorem zc_AB_t (hp : zc_P p n) {a s : Nat} (h0 : 0 < s) (hs : s < n) : zc_AB p a s = true ↔ p s = a ∨ zc_AB p a (p s) = true := by
  rw [zc_AB_s hp h0 hs, Bool.or_eq_true, decide_eq_true_iff]
theorem zc_AB_p {a s : Nat} (h : zc_AB p a s = true) : 0 < s := by
  rcases Nat.eq_zero_or_pos s with e | e
  · rw [e, zc_AB_0] at h; exact absurd h (by decide)
  · exact e
theorem zc_AB_lt (hp : zc_P p n) {a : Nat} : ∀ s, s < n → zc_AB p a s = true → a < s := by
  intro s
  induction s using Nat.strongRecOn with
  | ind s ih =>
    intro hs h
    have h0 := zc_AB_p h
    have h1 := hp.2 s h0 hs
    rcases (zc_AB_t hp h0 hs).mp h with e | e
    · omega
    · have := ih (p s) h1 (by omega) e
      omega
theorem zc_AB_ge (hp : zc_P p n) {a s : Nat} (hs : s < n) (h : s ≤ a) : zc_AB p a s = false := by
  cases e : zc_AB p a s
  · rfl
  · have := zc_AB_lt hp s hs e
    omega
theorem zc_AB_tr (hp : zc_P p n) {a b : Nat} (hab : zc_AB p a b = true) : ∀ s, s < n → zc_AB p b s = true → zc_AB p a s = true := by
  intro s
  induction s using Nat.strongRecOn with
  | ind s ih =>
    intro hs h
    have h0 := zc_AB_p h
    have h1 := hp.2 s h0 hs
    rcases (zc_AB_t hp h0 hs).mp h with e | e
    · exact (zc_AB_t hp h0 hs).mpr (Or.inr (by rw [e]; exact hab))
    · exact (zc_AB_t hp h0 hs).mpr (Or.inr (ih (p s) h1 (by omega) e))
theorem zc_AB_root (hp : zc_P p n) : ∀ s, 0 < s → s < n → zc_AB p 0 s = true := by
  intro s
  induction s using Nat.strongRecOn with
  | ind s ih =>
    intro h0 hs
    have h1 := hp.2 s h0 hs
    by_cases e : p s = 0
    · exact (zc_AB_t hp h0 hs).mpr (Or.inl e)
    · exact (zc_AB_t hp h0 hs).mpr (Or.inr (ih (p s) h1 (by omega) (by omega)))
theorem zc_AB_ch (hp : zc_P p n) {a b : Nat} : ∀ s, s < n → zc_AB p a s = true → zc_AB p b s = true → a = b ∨ zc_AB p a b = true ∨ zc_AB p b a = true := by
  intro s
  induction s using Nat.strongRecOn with
  | ind s ih =>
    intro hs ha hb
    have h0 := zc_AB_p ha
    have h1 := hp.2 s h0 hs
    rcases (zc_AB_t hp h0 hs).mp ha with e1 | e1
    · rcases (zc_AB_t hp h0 hs).mp hb with e2 | e2
      · left; omega
      · right; right; rw [← e1]; exact e2
    · rcases (zc_AB_t hp h0 hs).mp hb with e2 | e2
      · right; left; rw [← e2]; exact e1
      · exact ih (p s) h1 (by omega) e1 e2
theorem zc_abF_cg {p' : Nat → Nat} (hp : zc_P p n) (h : ∀ x, x < n → p' x = p x) {a : Nat} : ∀ k s, s < n → zc_abF p' a k s = zc_abF p a k s := by
  intro k
  induction k with
  | zero => intro s _; rfl
  | succ k ih =>
    intro s hs
    by_cases e : s = 0
    · subst e; rw [zc_abF_0, zc_abF_0]
    · have h1 := hp.2 s (by omega) hs
      rw [zc_abF_s p' a k e, zc_abF_s p a k e, h s hs, ih (p s) (by omega)]
theorem zc_AB_cg {p' : Nat → Nat} (hp : zc_P p n) (h : ∀ x, x < n → p' x = p x) {a s : Nat} (hs : s < n) : zc_AB p' a s = zc_AB p a s := zc_abF_cg hp h 12 s hs
/-! depth -/
def zc_dpF (p : Nat → Nat) : Nat → Nat → Nat
  | 0, _ => 0
  | k + 1, s => if s = 0 then 0 else zc_dpF p k (p s) + 1
def zc_DP (p : Nat → Nat) (s : Nat) : Nat := zc_dpF p 12 s
theorem zc_dpF_0 (p : Nat → Nat) : ∀ k, zc_dpF p k 0 = 0 := by
  intro k
  cases k with
  | zero => rfl
  | succ k => exact if_pos rfl
theorem zc_dpF_s (p : Nat → Nat) (k : Nat) {s : Nat} (h : ¬ s = 0) : zc_dpF p (k + 1) s = zc_dpF p k (p s) + 1 := if_neg h
theorem zc_dpF_st (hp : zc_P p n) : ∀ k k' s, s < n → s ≤ k → s ≤ k' → zc_dpF p k s = zc_dpF p k' s := by
  intro k
  induction k with
  | zero =>
    intro k' s _ h1 _
    have e : s = 0 := by omega
    subst e
    rw [zc_dpF_0, zc_dpF_0]
  | succ k ih =>
    intro k' s hs h1 h2
    by_cases h : s = 0
    · subst h; rw [zc_dpF_0, zc_dpF_0]
    · cases k' with
      | zero => omega
      | succ k' =>
        have := hp.2 s (by omega) hs
        rw [zc_dpF_s p k h, zc_dpF_s p k' h, ih k' (p s) (by omega) (by omega) (by omega)]
theorem zc_DP_0 (p : Nat → Nat) : zc_DP p 0 = 0 := zc_dpF_0 p 12
theorem zc_DP_s (hp : zc_P p n) {s : Nat} (h0 : 0 < s) (hs : s < n) : zc_DP p s = zc_DP p (p s) + 1 := by
  have h1 := hp.2 s h0 hs
  have h2 := hp.1
  show zc_dpF p 12 s = zc_dpF p 12 (p s) + 1
  rw [zc_dpF_s p 11 (by omega), zc_dpF_st hp 11 12 (p s) (by omega) (by omega) (by omega)]
theorem zc_DP_le (hp : zc_P p n) : ∀ s, s < n → zc_DP p s ≤ s := by
  intro s
  induction s using Nat.strongRecOn with
  | ind s ih =>
    intro hs
    by_cases e : s = 0
    · subst e; rw [zc_DP_0]; exact Nat.le_refl 0
    · have h1 := hp.2 s (by omega) hs
      have := ih (p s) h1 (by omega)
      rw [zc_DP_s hp (by omega) hs]; omega
theorem zc_DP_AB (hp : zc_P p n) {a : Nat} : ∀ s, s < n → zc_AB p a s = true → zc_DP p a < zc_DP p s := by
  intro s
  induction s using Nat.strongRecOn with
  | ind s ih =>
    intro hs h
    have h0 := zc_AB_p h
    have h1 := hp.2 s h0 hs
    rw [zc_DP_s hp h0 hs]
    rcases (zc_AB_t hp h0 hs).mp h with e | e
    · rw [e]; omega
    · have := ih (p s) h1 (by omega) e
      omega
theorem zc_DP_cnt (hp : zc_P p n) : ∀ s, s < n → zn_c n (fun a => zc_AB p a s) = zc_DP p s := by
  intro s
  induction s using Nat.strongRecOn with
  | ind s ih =>
    intro hs
    by_cases e : s = 0
    · subst e
      rw [zc_DP_0]
      exact zn_c_0 n (fun i _ => zc_AB_0 p i)
    · have h1 := hp.2 s (by omega) hs
      rw [zc_DP_s hp (by omega) hs, ← ih (p s) h1 (by omega)]
      refine zn_c_one (t := p s) n (by omega) (zc_AB_ge hp (by omega) (Nat.le_refl _)) ((zc_AB_t hp (by omega) hs).mpr (Or.inl rfl)) (fun i _ hne => ?_)
      show zc_AB p i s = zc_AB p i (p s)
      rw [zc_AB_s hp (by omega) hs, decide_eq_false (fun e => hne e.symm), Bool.false_or]
theorem zc_dpF_cg {p' : Nat → Nat} (hp : zc_P p n) (h : ∀ x, x < n → p' x = p x) : ∀ k s, s < n → zc_dpF p' k s = zc_dpF p k s := by
  intro k
  induction k with
  | zero => intro s _; rfl
  | succ k ih =>
    intro s hs
    by_cases e : s = 0
    · subst e; rw [zc_dpF_0, zc_dpF_0]
    · have h1 := hp.2 s (by omega) hs
      rw [zc_dpF_s p' k e, zc_dpF_s p k e, h s hs, ih (p s) (by omega)]
theorem zc_DP_cg {p' : Nat → Nat} (hp : zc_P p n) (h : ∀ x, x < n → p' x = p x) {s : Nat} (hs : s < n) : zc_DP p' s = zc_DP p s := zc_dpF_cg hp h 12 s hs
/-! the child of d toward t -/
def zc_cp (p : Nat → Nat) (d t x : Nat) : Bool := decide (0 < x) && (decide (p x = d) && (decide (x = t) || zc_AB p x t))
def zc_CT (p : Nat → Nat) (n d t : Nat) : Nat := zn_fi (zc_cp p d t) 0 n 0
theorem zc_cp_t {d t x : Nat} : zc_cp p d t x = true ↔ 0 < x ∧ p x = d ∧ (x = t ∨ zc_AB p x t = true) := by
  unfold zc_cp
  rw [Bool.and_eq_true, Bool.and_eq_true, Bool.or_eq_true, decide_eq_true_iff, decide_eq_true_iff, decide_eq_true_iff]
theorem zc_cp_le (hp : zc_P p n) {d t x : Nat} (ht : t < n) (h : zc_cp p d t x = true) : x ≤ t := by
  rcases (zc_cp_t.mp h).2.2 with e | e
  · omega
  · have := zc_AB_lt hp t ht e
    omega
theorem zc_cp_ex (hp : zc_P p n) {d : Nat} : ∀ t, t < n → zc_AB p d t = true → ∃ x, x < n ∧ zc_cp p d t x = true := by
  intro t
  induction t using Nat.strongRecOn with
  | ind t ih =>
    intro ht h
    have h0 := zc_AB_p h
    have h1 := hp.2 t h0 ht
    rcases (zc_AB_t hp h0 ht).mp h with e | e
    · exact ⟨t, ht, zc_cp_t.mpr ⟨h0, e, Or.inl rfl⟩⟩
    · obtain ⟨x, hx, hc⟩ := ih (p t) h1 (by omega) e
      obtain ⟨a1, a2, a3⟩ := zc_cp_t.mp hc
      refine ⟨x, hx, zc_cp_t.mpr ⟨a1, a2, Or.inr ?_⟩⟩
      rcases a3 with a3 | a3
      · exact (zc_AB_t hp h0 ht).mpr (Or.inl a3.symm)
      · exact (zc_AB_t hp h0 ht).mpr (Or.inr a3)
theorem zc_cp_AB (hp : zc_P p n) {d t x : Nat} (ht : t < n) (h : zc_cp p d t x = true) : zc_AB p d t = true := by
  have hl := zc_cp_le hp ht h
  obtain ⟨a1, a2, a3⟩ := zc_cp_t.mp h
  have hx : zc_AB p d x = true := (zc_AB_t hp a1 (by omega)).mpr (Or.inl a2)
  rcases a3 with a3 | a3
  · rw [← a3]; exact hx
  · exact zc_AB_tr hp hx t ht a3
theorem zc_CT_sp (hp : zc_P p n) {d t : Nat} (ht : t < n) (h : zc_AB p d t = true) : 0 < zc_CT p n d t ∧ zc_CT p n d t < n ∧ p (zc_CT p n d t) = d ∧ (zc_CT p n d t = t ∨ zc_AB p (zc_CT p n d t) t = true) := by
  obtain ⟨x, hx, hc⟩ := zc_cp_ex hp t ht h
  rcases zn_fi_sp (f := zc_cp p d t) (d := 0) n 0 with ⟨j, h1, h2, h3, h4, _⟩ | ⟨_, h2⟩
  · have e : zc_CT p n d t = j := h4
    rw [e]
    exact ⟨(zc_cp_t.mp h3).1, by omega, (zc_cp_t.mp h3).2⟩
  · have := h2 x (by omega) (by omega)
    rw [hc] at this; exact absurd this (by decide)
/-! the domain of a transition from sr to tg -/
def zc_dq (p kd : Nat → Nat) (sr tg d : Nat) : Bool := decide (kd d = 0) && (zc_AB p d tg && (decide (d = sr) || zc_AB p d sr))
def zc_DM (p kd : Nat → Nat) (sr tg : Nat) : Nat := zn_hi (zc_dq p kd sr tg) 11
theorem zc_dq_t {kd : Nat → Nat} {sr tg d : Nat} : zc_dq p kd sr tg d = true ↔ kd d = 0 ∧ zc_AB p d tg = true ∧ (d = sr ∨ zc_AB p d sr = true) := by
  unfold zc_dq
  rw [Bool.and_eq_true, Bool.and_eq_true, Bool.or_eq_true, decide_eq_true_iff, decide_eq_true_iff]
theorem zc_dq_0 (hp : zc_P p n) {kd : Nat → Nat} {sr tg : Nat} (k0 : kd 0 = 0) (hs : sr < n) (h0 : 0 < tg) (ht : tg < n) : zc_dq p kd sr tg 0 = true := by
  refine zc_dq_t.mpr ⟨k0, zc_AB_root hp tg h0 ht, ?_⟩
  by_cases e : sr = 0
  · left; exact e.symm
  · right; exact zc_AB_root hp sr (by omega) hs
theorem zc_dq_lt (hp : zc_P p n) {kd : Nat → Nat} {sr tg d : Nat} (ht : tg < n) (h : zc_dq p kd sr tg d = true) : d < tg := zc_AB_lt hp tg ht (zc_dq_t.mp h).2.1
theorem zc_dq_ge (hp : zc_P p n) {kd : Nat → Nat} {sr tg d : Nat} (ht : tg < n) (h : tg ≤ d) : zc_dq p kd sr tg d = false := by
  cases e : zc_dq p kd sr tg d
  · rfl
  · have := zc_dq_lt hp ht e
    omega
theorem zc_DM_q (hp : zc_P p n) {kd : Nat → Nat} {sr tg : Nat} (k0 : kd 0 = 0) (hs : sr < n) (h0 : 0 < tg) (ht : tg < n) : zc_dq p kd sr tg (zc_DM p kd sr tg) = true := by
  rcases zn_hi_sp (f := zc_dq p kd sr tg) 11 with ⟨_, _, h⟩ | h
  · exact h
  · show zc_dq p kd sr tg (zn_hi _ 11) = true
    rw [h]; exact zc_dq_0 hp k0 hs h0 ht
theorem zc_DM_n (hp : zc_P p n) {kd : Nat → Nat} {sr tg : Nat} (ht : tg < n) : zn_hi (zc_dq p kd sr tg) (n - 1) = zc_DM p kd sr tg := by
  have h := hp.1
  have e : 11 = (n - 1) + (12 - n) := by omega
  show _ = zn_hi _ 11
  rw [e, zn_hi_up (12 - n) (fun i hi => zc_dq_ge hp ht (by omega))]
theorem zc_DM_cg {p' kd kd' : Nat → Nat} (hp : zc_P p n) {sr tg : Nat} (hs : sr < n) (ht : tg < n) (h : ∀ x, x < n → p' x = p x) (hk : ∀ x, x < n → kd' x = kd x) : zc_DM p' kd' sr tg = zc_DM p kd sr tg := by
  show zn_hi _ 11 = zn_hi _ 11
  apply zn_hi_cg
  intro i _ _
  have e1 : zc_AB p' i tg = zc_AB p i tg := zc_AB_cg hp h ht
  have e2 : zc_AB p' i sr = zc_AB p i sr := zc_AB_cg hp h hs
  unfold zc_dq
  rw [e1, e2]
  by_cases hi : i < n
  · rw [hk i hi]
  · rw [zc_AB_ge hp ht (by omega), Bool.false_and, Bool.and_false, Bool.and_false]
end ZTREE
end
section
section ZSEM
/-! the chart c: c 0 .. c 10 its fields by number, c 11 0 the states, c 12 0 the transitions -/
abbrev zs_n (c : Nat → Nat → Nat) : Nat := c 11 0
abbrev zs_q (c : Nat → Nat → Nat) : Nat := c 12 0
def zs_G (c : Nat → Nat → Nat) (ev : Nat) : Prop :=
  (1 ≤ zs_n c ∧ zs_n c ≤ 12 ∧ zs_q c ≤ 16 ∧ ev ≤ 4) ∧
  (∀ s, 0 < s → s < zs_n c → c 0 s < s) ∧
  (c 1 0 = 0 ∧ ∀ s, s < zs_n c → c 1 s ≤ 1) ∧
  (∀ s, s < zs_n c → c 2 s ≠ 0 → c 1 s = 0 ∧ c 2 s < zs_n c ∧ c 0 (c 2 s) = s) ∧
  (∀ x, 0 < x → x < zs_n c → c 1 (c 0 x) = 0 → c 2 (c 0 x) ≠ 0) ∧
  (∀ s, zs_n c ≤ s → c 2 s = 0) ∧
  (∀ t, t < zs_q c → c 5 t < zs_n c ∧ c 6 t < ev ∧ 0 < c 7 t ∧ c 7 t < zs_n c ∧ c 8 t ≤ 2 ∧ (c 9 t = 0 ∨ (2 ≤ c 9 t ∧ c 9 t ≤ 2 * zs_n c + 1))) ∧
  (∀ t, zs_q c ≤ t → c 9 t = 0) ∧
  (∀ i j, c i j < 2 ^ 31)
variable {c : Nat → Nat → Nat} {ev : Nat}
theorem zs_Gn (h : zs_G c ev) : 1 ≤ zs_n c ∧ zs_n c ≤ 12 ∧ zs_q c ≤ 16 ∧ ev ≤ 4 := h.1
theorem zs_GP (h : zs_G c ev) : zc_P (c 0) (zs_n c) := ⟨h.1.2.1, h.2.1⟩
theorem zs_Gk0 (h : zs_G c ev) : c 1 0 = 0 := h.2.2.1.1
theorem zs_Gk (h : zs_G c ev) {s : Nat} (hs : s < zs_n c) : c 1 s ≤ 1 := h.2.2.1.2 s hs
theorem zs_Gi (h : zs_G c ev) {s : Nat} (hs : s < zs_n c) (hi : c 2 s ≠ 0) : c 1 s = 0 ∧ c 2 s < zs_n c ∧ c 0 (c 2 s) = s := h.2.2.2.1 s hs hi
theorem zs_Gc (h : zs_G c ev) {x : Nat} (h0 : 0 < x) (hx : x < zs_n c) (hk : c 1 (c 0 x) = 0) : c 2 (c 0 x) ≠ 0 := h.2.2.2.2.1 x h0 hx hk
theorem zs_Gi0 (h : zs_G c ev) {s : Nat} (hs : zs_n c ≤ s) : c 2 s = 0 := h.2.2.2.2.2.1 s hs
theorem zs_Gt (h : zs_G c ev) {t : Nat} (ht : t < zs_q c) : c 5 t < zs_n c ∧ c 6 t < ev ∧ 0 < c 7 t ∧ c 7 t < zs_n c ∧ c 8 t ≤ 2 ∧ (c 9 t = 0 ∨ (2 ≤ c 9 t ∧ c 9 t ≤ 2 * zs_n c + 1)) := h.2.2.2.2.2.2.1 t ht
theorem zs_Gg0 (h : zs_G c ev) {t : Nat} (ht : zs_q c ≤ t) : c 9 t = 0 := h.2.2.2.2.2.2.2.1 t ht
theorem zs_Gb (h : zs_G c ev) (i j : Nat) : c i j < 2 ^ 31 := h.2.2.2.2.2.2.2.2 i j
/-! which transitions are taken -/
abbrev zs_dm (c : Nat → Nat → Nat) (t : Nat) : Nat := zc_DM (c 0) (c 1) (c 5 t) (c 7 t)
theorem zs_dmq (h : zs_G c ev) {t : Nat} (ht : t < zs_q c) : zc_dq (c 0) (c 1) (c 5 t) (c 7 t) (zs_dm c t) = true := by
  obtain ⟨a1, _, a3, a4, _, _⟩ := zs_Gt h ht
  exact zc_DM_q (zs_GP h) (zs_Gk0 h) a1 a3 a4
theorem zs_dmA (h : zs_G c ev) {t : Nat} (ht : t < zs_q c) : zc_AB (c 0) (zs_dm c t) (c 7 t) = true := (zc_dq_t.mp (zs_dmq h ht)).2.1
theorem zs_dmlt (h : zs_G c ev) {t : Nat} (ht : t < zs_q c) : zs_dm c t < zs_n c := by
  have h1 := zs_Gt h ht
  have := zc_AB_lt (zs_GP h) (c 7 t) h1.2.2.2.1 (zs_dmA h ht)
  omega
def zs_EN (c : Nat → Nat → Nat) (z e t : Nat) : Bool := decide (c 6 t = e) && (z.testBit (c 5 t) && (decide (c 9 t = 0) || (z.testBit (c 9 t / 2 - 1) == decide (c 9 t % 2 = 0))))
def zs_BF (c : Nat → Nat → Nat) (u t : Nat) : Bool := decide (zc_DP (c 0) (c 5 t) < zc_DP (c 0) (c 5 u)) || (decide (zc_DP (c 0) (c 5 u) = zc_DP (c 0) (c 5 t)) && decide (u < t))
theorem zs_BF_t {u t : Nat} : zs_BF c u t = true ↔ zc_DP (c 0) (c 5 t) < zc_DP (c 0) (c 5 u) ∨ (zc_DP (c 0) (c 5 u) = zc_DP (c 0) (c 5 t) ∧ u < t) := by
  unfold zs_BF
  rw [Bool.or_eq_true, Bool.and_eq_true, decide_eq_true_iff, decide_eq_true_iff, decide_eq_true_iff]
def zs_CF (c : Nat → Nat → Nat) (d o : Nat) : Bool := decide (d = o) || (zc_AB (c 0) d o || zc_AB (c 0) o d)
def zs_tkF (c : Nat → Nat → Nat) (z e : Nat) : Nat → Nat → Bool
  | 0, _ => false
  | k + 1, t => zs_EN c z e t && !(zn_any (zs_q c) (fun u => zs_BF c u t && (zs_tkF c z e k u && zs_CF c (zs_dm c t) (zs_dm c u))))
theorem zs_tkF_s (z e k t : Nat) : zs_tkF c z e (k + 1) t = (zs_EN c z e t && !(zn_any (zs_q c) (fun u => zs_BF c u t && (zs_tkF c z e k u && zs_CF c (zs_dm c t) (zs_dm c u))))) := rfl
def zs_rk (c : Nat → Nat → Nat) (t : Nat) : Nat := (11 - zc_DP (c 0) (c 5 t)) * 16 + t
theorem zs_dp11 (h : zs_G c ev) {t : Nat} (ht : t < zs_q c) : zc_DP (c 0) (c 5 t) ≤ 11 := by
  have h1 := (zs_Gt h ht).1
  have h2 := zc_DP_le (zs_GP h) _ h1
  have h3 := zs_Gn h
  omega
theorem zs_rk_lt (h : zs_G c ev) {u t : Nat} (hu : u < zs_q c) (ht : t < zs_q c) (hb : zs_BF c u t = true) : zs_rk c u < zs_rk c t := by
  have h1 := zs_dp11 h hu
  have h2 := zs_dp11 h ht
  have h3 := zs_Gn h
  have h4 := zs_BF_t.mp hb
  unfold zs_rk
  generalize zc_DP (c 0) (c 5 u) = a at h1 h4 ⊢
  generalize zc_DP (c 0) (c 5 t) = b at h2 h4 ⊢
  omega
theorem zs_tk_st (h : zs_G c ev) {z e : Nat} : ∀ k k' t, t < zs_q c → zs_rk c t < k → zs_rk c t < k' → zs_tkF c z e k t = zs_tkF c z e k' t := by
  intro k
  induction k with
  | zero => intro k' t _ h1; omega
  | succ k ih =>
    intro k' t ht h1 h2
    cases k' with
    | zero => omega
    | succ k' =>
      rw [zs_tkF_s, zs_tkF_s]
      congr 2
      apply zn_any_cg
      intro u hu
      cases hb : zs_BF c u t
      · rfl
      · have := zs_rk_lt h hu ht hb
        rw [ih k' u hu (by omega) (by omega)]
def zs_TK (c : Nat → Nat → Nat) (z e t : Nat) : Bool := zs_tkF c z e 256 t
theorem zs_rk_256 (h : zs_G c ev) {t : Nat} (ht : t < zs_q c) : zs_rk c t < 255 := by
  have h3 := zs_Gn h
  unfold zs_rk
  omega
theorem zs_TK_eq (h : zs_G c ev) {z e t : Nat} (ht : t < zs_q c) : zs_TK c z e t = (zs_EN c z e t && !(zn_any (zs_q c) (fun u => zs_BF c u t && (zs_TK c z e u && zs_CF c (zs_dm c t) (zs_dm c u))))) := by
  have e1 : zs_TK c z e t = zs_tkF c z e (255 + 1) t := rfl
  have e2 := zn_any_cg (f := fun u => zs_BF c u t && (zs_tkF c z e 255 u && zs_CF c (zs_dm c t) (zs_dm c u))) (g := fun u => zs_BF c u t && (zs_TK c z e u && zs_CF c (zs_dm c t) (zs_dm c u))) (zs_q c) (fun u hu => by
    have h1 := zs_rk_256 h hu
    have h2 : zs_tkF c z e 255 u = zs_TK c z e u := zs_tk_st h 255 256 u hu (by omega) (by omega)
    show (zs_BF c u t && (zs_tkF c z e 255 u && zs_CF c (zs_dm c t) (zs_dm c u))) = _
    rw [h2])
  rw [e1, zs_tkF_s, e2]
theorem zs_TK_EN (h : zs_G c ev) {z e t : Nat} (ht : t < zs_q c) (hk : zs_TK c z e t = true) : zs_EN c z e t = true := by
  rw [zs_TK_eq h ht, Bool.and_eq_true] at hk
  exact hk.1
def zs_tkm (c : Nat → Nat → Nat) (z e : Nat) : Nat := zn_mk (zs_q c) (zs_TK c z e)
def zs_exs (c : Nat → Nat → Nat) (z e s : Nat) : Bool := z.testBit s && zn_any (zs_q c) (fun t => zs_TK c z e t && zc_AB (c 0) (zs_dm c t) s)
def zs_exm (c : Nat → Nat → Nat) (z e : Nat) : Nat := zn_mk (zs_n c) (zs_exs c z e)
/-! what is entered -/
def zs_hs (c : Nat → Nat → Nat) (tg md s : Nat) : Bool := (decide (s = tg) && !decide (md = 0)) || (zc_AB (c 0) tg s && decide (md = 2))
def zs_pk (c : Nat → Nat → Nat) (tg md B s : Nat) : Nat := if zc_AB (c 0) s tg = true then zc_CT (c 0) (zs_n c) s tg else if (zs_hs c tg md s && !decide (zw_L B s = 0)) = true then zw_L B s else c 2 s
def zs_cq (c : Nat → Nat → Nat) (tg md B s x : Nat) : Bool := decide (0 < x) && (decide (c 0 x = s) && (decide (c 1 s = 1) || decide (x = zs_pk c tg md B s)))
def zs_cm (c : Nat → Nat → Nat) (tg md B s : Nat) : Nat := zn_mk (zs_n c) (zs_cq c tg md B s)
def zs_eS (c : Nat → Nat → Nat) (tg md B s : Nat) (w : Nat × Nat) : Nat × Nat := if w.1.testBit s = true then (w.1 ||| zs_cm c tg md B s, if c 2 s = 0 then w.2 else zw_rc w.2 s (zs_pk c tg md B s)) else w
def zs_eL (c : Nat → Nat → Nat) (tg md B : Nat) : Nat → Nat → Nat × Nat → Nat × Nat
  | 0, _, w => w
  | k + 1, s, w => zs_eL c tg md B k (s + 1) (zs_eS c tg md B s w)
theorem zs_eL_s (tg md B k s : Nat) (w : Nat × Nat) : zs_eL c tg md B (k + 1) s w = zs_eL c tg md B k (s + 1) (zs_eS c tg md B s w) := rfl
theorem zs_eS_n {tg md B s : Nat} {w : Nat × Nat} (h : w.1.testBit s = false) : zs_eS c tg md B s w = w := if_neg (by rw [h]; decide)
theorem zs_eS_t {tg md B s : Nat} {w : Nat × Nat} (h : w.1.testBit s = true) : zs_eS c tg md B s w = (w.1 ||| zs_cm c tg md B s, if c 2 s = 0 then w.2 else zw_rc w.2 s (zs_pk c tg md B s)) := if_pos h
theorem zs_eL_skip {tg md B : Nat} {w : Nat × Nat} : ∀ m k s, (∀ j, s ≤ j → j < s + m → w.1.testBit j = false) → zs_eL c tg md B (m + k) s w = zs_eL c tg md B k (s + m) w := by
  intro m
  induction m with
  | zero => intro k s _; rw [Nat.zero_add]; rfl
  | succ m ih =>
    intro k s h
    rw [show m + 1 + k = (m + k) + 1 from by omega, zs_eL_s, zs_eS_n (h s (by omega) (by omega)), ih k (s + 1) (fun j a b => h j (by omega) (by omega)), show s + 1 + m = s + (m + 1) from by omega]
abbrev zs_f (c : Nat → Nat → Nat) (t : Nat) : Nat := zc_CT (c 0) (zs_n c) (zs_dm c t) (c 7 t)
theorem zs_fsp (h : zs_G c ev) {t : Nat} (ht : t < zs_q c) : 0 < zs_f c t ∧ zs_f c t < zs_n c ∧ c 0 (zs_f c t) = zs_dm c t :=
  have a := zc_CT_sp (zs_GP h) (zs_Gt h ht).2.2.2.1 (zs_dmA h ht)
  ⟨a.1, a.2.1, a.2.2.1⟩
def zs_tE (c : Nat → Nat → Nat) (z t y : Nat) : Nat × Nat := zs_eL c (c 7 t) (c 8 t) z (zs_n c) 0 (2 ^ zs_f c t, zw_rc y (zs_dm c t) (zs_f c t))
def zs_tL (c : Nat → Nat → Nat) (z : Nat) (T : Nat → Bool) : Nat → Nat × Nat
  | 0 => (0, z)
  | t + 1 => if T t = true then ((zs_tL c z T t).1 ||| (zs_tE c z t (zs_tL c z T t).2).1, (zs_tE c z t (zs_tL c z T t).2).2) else zs_tL c z T t
theorem zs_tL_t {z t : Nat} {T : Nat → Bool} (h : T t = true) : zs_tL c z T (t + 1) = ((zs_tL c z T t).1 ||| (zs_tE c z t (zs_tL c z T t).2).1, (zs_tE c z t (zs_tL c z T t).2).2) := if_pos h
theorem zs_tL_n {z t : Nat} {T : Nat → Bool} (h : T t = false) : zs_tL c z T (t + 1) = zs_tL c z T t := if_neg (by rw [h]; decide)
def zs_enm (c : Nat → Nat → Nat) (z e : Nat) : Nat := (zs_tL c z (zs_TK c z e) (zs_q c)).1
def zs_sp (c : Nat → Nat → Nat) (z e : Nat) : Nat := zw_ra (zs_tL c z (zs_TK c z e) (zs_q c)).2 (zw_an (z % 4096) (zs_exm c z e) ||| zs_enm c z e)
def zs_st (c : Nat → Nat → Nat) : Nat × Nat := zs_eL c 0 0 0 (zs_n c) 0 (1, 0)
def zs_z0 (c : Nat → Nat → Nat) : Nat := zw_ra (zs_st c).2 (zs_st c).1
/-! well-formed situations -/
def zs_WL (c : Nat → Nat → Nat) (z : Nat) : Prop := z < 2 ^ 60 ∧ ∀ s, s < 12 → zw_L z s ≠ 0 → zw_L z s < zs_n c ∧ c 0 (zw_L z s) = s
def zs_W (c : Nat → Nat → Nat) (z : Nat) : Prop := zs_WL c z ∧ z % 4096 < 2 ^ zs_n c
theorem zs_n16 (h : zs_G c ev) {x : Nat} (hx : x < zs_n c) : x < 16 := by have := zs_Gn h; omega
theorem zs_pk_sp (h : zs_G c ev) {tg md B s : Nat} (hB : zs_WL c B) (ht : tg < zs_n c) (hs : s < zs_n c) (hi : c 2 s ≠ 0) : 0 < zs_pk c tg md B s ∧ zs_pk c tg md B s < zs_n c ∧ c 0 (zs_pk c tg md B s) = s := by
  have hn := zs_Gn h
  unfold zs_pk
  by_cases h1 : zc_AB (c 0) s tg = true
  · rw [if_pos h1]
    have a := zc_CT_sp (zs_GP h) ht h1
    exact ⟨a.1, a.2.1, a.2.2.1⟩
  · rw [if_neg h1]
    by_cases h2 : (zs_hs c tg md s && !decide (zw_L B s = 0)) = true
    · rw [if_pos h2]
      have h3 : zw_L B s ≠ 0 := by
        intro e
        rw [e] at h2
        simp at h2
      exact ⟨by omega, hB.2 s (by omega) h3⟩
    · rw [if_neg h2]
      have := zs_Gi h hs hi
      exact ⟨by omega, this.2.1, this.2.2⟩
theorem zs_WL_rc (h : zs_G c ev) {z s x : Nat} (hz : zs_WL c z) (hs : s < zs_n c) (hx : x < zs_n c) (hp : c 0 x = s) : zs_WL c (zw_rc z s x) := by
  have hn := zs_Gn h
  have hx' := zs_n16 h hx
  refine ⟨zw_rc_lt hz.1 (by omega) hx', fun y hy => ?_⟩
  rw [zw_rc_L hz.1 hx']
  by_cases e : y = s
  · rw [if_pos e]
    intro _
    exact ⟨hx, by rw [hp, e]⟩
  · rw [if_neg e]; exact hz.2 y hy
theorem zs_cm_lt (tg md B s : Nat) : zs_cm c tg md B s < 2 ^ zs_n c := zn_mk_lt _ _
theorem zs_eS_I (h : zs_G c ev) {tg md B s : Nat} {w : Nat × Nat} (hB : zs_WL c B) (ht : tg < zs_n c) (hs : s < zs_n c) (h1 : w.1 < 2 ^ zs_n c) (h2 : zs_WL c w.2) : (zs_eS c tg md B s w).1 < 2 ^ zs_n c ∧ zs_WL c (zs_eS c tg md B s w).2 := by
  cases e : w.1.testBit s
  · rw [zs_eS_n e]; exact ⟨h1, h2⟩
  · rw [zs_eS_t e]
    refine ⟨Nat.or_lt_two_pow h1 (zs_cm_lt _ _ _ _), ?_⟩
    show zs_WL c (if c 2 s = 0 then w.2 else _)
    by_cases hi : c 2 s = 0
    · rw [if_pos hi]; exact h2
    · rw [if_neg hi]
      have a := zs_pk_sp h (md := md) hB ht hs hi
      exact zs_WL_rc h h2 hs a.2.1 a.2.2
theorem zs_eL_I (h : zs_G c ev) {tg md B : Nat} (hB : zs_WL c B) (ht : tg < zs_n c) : ∀ k s w, s + k = zs_n c → w.1 < 2 ^ zs_n c → zs_WL c w.2 → (zs_eL c tg md B k s w).1 < 2 ^ zs_n c ∧ zs_WL c (zs_eL c tg md B k s w).2 := by
  intro k
  induction k with
  | zero => intro s w _ h1 h2; exact ⟨h1, h2⟩
  | succ k ih =>
    intro s w hs h1 h2
    rw [zs_eL_s]
    have a := zs_eS_I h (md := md) (s := s) hB ht (by omega) h1 h2
    exact ih (s + 1) _ (by omega) a.1 a.2
theorem zs_2p {x k : Nat} (h : x < k) : 2 ^ x < 2 ^ k := Nat.pow_lt_pow_right (by decide) h
theorem zs_tE_I (h : zs_G c ev) {z t y : Nat} (hz : zs_WL c z) (ht : t < zs_q c) (hy : zs_WL c y) : (zs_tE c z t y).1 < 2 ^ zs_n c ∧ zs_WL c (zs_tE c z t y).2 := by
  have a := zs_fsp h ht
  exact zs_eL_I h hz (zs_Gt h ht).2.2.2.1 _ 0 _ (Nat.zero_add _) (zs_2p a.2.1) (zs_WL_rc h hy (zs_dmlt h ht) a.2.1 a.2.2)
theorem zs_tL_I (h : zs_G c ev) {z : Nat} {T : Nat → Bool} (hz : zs_WL c z) : ∀ t, t ≤ zs_q c → (zs_tL c z T t).1 < 2 ^ zs_n c ∧ zs_WL c (zs_tL c z T t).2 := by
  intro t
  induction t with
  | zero => intro _; exact ⟨Nat.two_pow_pos _, hz⟩
  | succ t ih =>
    intro ht
    have a := ih (by omega)
    cases e : T t
    · rw [zs_tL_n e]; exact a
    · rw [zs_tL_t e]
      have b := zs_tE_I h hz (show t < zs_q c by omega) a.2
      exact ⟨Nat.or_lt_two_pow a.1 b.1, b.2⟩
theorem zs_n12 (h : zs_G c ev) {m : Nat} (hm : m < 2 ^ zs_n c) : m < 2 ^ 12 := Nat.lt_of_lt_of_le hm (zn_pw (zs_Gn h).2.1)
theorem zs_ra_mod {z a : Nat} (hz : z < 2 ^ 60) (ha : a < 2 ^ 12) : zw_ra z a % 4096 = a := by
  apply Nat.eq_of_testBit_eq
  intro i
  rw [zw_a_tb]
  by_cases hi : i < 12
  · rw [decide_eq_true hi, Bool.true_and, zw_ra_a hz ha hi]
  · rw [decide_eq_false hi, Bool.false_and, zn_hb ha (by omega)]
theorem zs_W_ra (h : zs_G c ev) {z a : Nat} (hz : zs_WL c z) (ha : a < 2 ^ zs_n c) : zs_W c (zw_ra z a) := by
  have h12 := zs_n12 h ha
  refine ⟨⟨zw_ra_lt hz.1 h12, fun s hs => ?_⟩, ?_⟩
  · rw [zw_ra_L hz.1 h12]; exact hz.2 s hs
  · rw [zs_ra_mod hz.1 h12]; exact ha
theorem zs_WL_0 : zs_WL c 0 := ⟨by decide, fun s _ h => absurd (zw_L_0 s) h⟩
theorem zs_st_I (h : zs_G c ev) : (zs_st c).1 < 2 ^ zs_n c ∧ zs_WL c (zs_st c).2 := by
  have hn := zs_Gn h
  refine zs_eL_I h zs_WL_0 (by omega) _ 0 _ (Nat.zero_add _) ?_ zs_WL_0
  exact zs_2p (x := 0) (by omega)
theorem zs_W_z0 (h : zs_G c ev) : zs_W c (zs_z0 c) := zs_W_ra h (zs_st_I h).2 (zs_st_I h).1
theorem zs_nact_lt (h : zs_G c ev) {z e : Nat} (hz : zs_W c z) : (zw_an (z % 4096) (zs_exm c z e) ||| zs_enm c z e) < 2 ^ zs_n c :=
  Nat.or_lt_two_pow (zw_an_lt hz.2) (zs_tL_I h hz.1 (zs_q c) (Nat.le_refl _)).1
theorem zs_W_sp (h : zs_G c ev) {z e : Nat} (hz : zs_W c z) : zs_W c (zs_sp c z e) :=
  zs_W_ra h (zs_tL_I h hz.1 (zs_q c) (Nat.le_refl _)).2 (zs_nact_lt h hz)
theorem zs_sp_none (h : zs_G c ev) {z e : Nat} (hz : zs_W c z) (hT : ∀ t, t < zs_q c → zs_TK c z e t = false) : zs_sp c z e = z ∧ zs_tkm c z e = 0 ∧ zs_exm c z e = 0 ∧ zs_enm c z e = 0 := by
  have h1 : ∀ t, t ≤ zs_q c → zs_tL c z (zs_TK c z e) t = (0, z) := by
    intro t
    induction t with
    | zero => intro _; rfl
    | succ t ih => intro ht; rw [zs_tL_n (hT t (by omega)), ih (by omega)]
  have h2 : zs_exm c z e = 0 := zn_mk_0 (fun i _ => by
    unfold zs_exs
    rw [zn_any_f.mpr (fun t ht => by rw [hT t ht]; rfl), Bool.and_false])
  have h3 : zs_enm c z e = 0 := by unfold zs_enm; rw [h1 _ (Nat.le_refl _)]
  refine ⟨?_, zn_mk_0 hT, h2, h3⟩
  unfold zs_sp
  rw [h1 _ (Nat.le_refl _), h2, h3]
  show zw_ra z (zw_an (z % 4096) 0 ||| 0) = z
  have h4 : zw_an (z % 4096) 0 ||| 0 = z % 4096 := by
    apply Nat.eq_of_testBit_eq
    intro i
    have := Nat.mod_lt z (show 0 < 4096 by decide)
    rw [Nat.or_zero, zw_an_tb (by omega), Nat.zero_testBit]
    simp
  rw [h4, zw_ra_id hz.1.1]
/-! the reachable ones -/
def zs_R (c : Nat → Nat → Nat) (ev z : Nat) : Prop := ∀ S : Nat → Prop, S (zs_z0 c) → (∀ y e, e < ev → S y → S (zs_sp c y e)) → S z
theorem zs_R_0 : zs_R c ev (zs_z0 c) := fun _ h _ => h
theorem zs_R_s {z e : Nat} (h : zs_R c ev z) (he : e < ev) : zs_R c ev (zs_sp c z e) := fun S h0 hs => hs z e he (h S h0 hs)
theorem zs_R_W (h : zs_G c ev) {z : Nat} (hz : zs_R c ev z) : zs_W c z := hz (zs_W c) (zs_W_z0 h) (fun _ _ _ hy => zs_W_sp h hy)
end ZSEM
end
section
section ZXS
/-! the component's walks: entering -/
theorem zn_rd (f : Nat → Nat) {i : Nat} (h : i < 2 ^ 31) : zn_A f (nI i).toNatClampNeg = nI (f i) := by rw [nI_clamp h]; rfl
theorem zn_req {f : Nat → Nat} {i v : Nat} (h : i < 2 ^ 31) (hf : f i < 2 ^ 31) (hv : v < 2 ^ 31) : zn_A f (nI i).toNatClampNeg = nI v ↔ f i = v := by rw [zn_rd f h, nI_eq hf hv]
theorem zn_e0 {a : Nat} (h : a < 2 ^ 31) : nI a = 0 ↔ a = 0 := by rw [← nI_0, nI_eq h (by decide)]
/-- the derived tables of the component -/
def zx_D (c d : Nat → Nat → Nat) : Prop :=
  (∀ s, s < zs_n c → d 0 s = zc_DP (c 0) s) ∧
  (∀ s, s < zs_n c → d 1 s = zn_mk 12 (fun a => zc_AB (c 0) a s)) ∧
  (∀ a, a < 12 → d 2 a = zn_mk (zs_n c) (fun s => zc_AB (c 0) a s)) ∧
  (∀ a, a < 12 → d 3 a = zn_mk (zs_n c) (fun x => decide (0 < x) && decide (c 0 x = a))) ∧
  (∀ t, t < zs_q c → d 4 t = zs_dm c t) ∧
  ((∀ i, i < zs_q c → d 5 i < zs_q c) ∧ (∀ i j, i < j → j < zs_q c → zs_BF c (d 5 i) (d 5 j) = true) ∧ (∀ t, t < zs_q c → ∃ i, i < zs_q c ∧ d 5 i = t)) ∧
  d 6 0 = zn_mk (zs_n c) (fun s => decide (c 1 s = 0))
variable {c d : Nat → Nat → Nat} {ev : Nat}
theorem zx_D0 (h : zx_D c d) {s : Nat} (hs : s < zs_n c) : d 0 s = zc_DP (c 0) s := h.1 s hs
theorem zx_D1 (h : zx_D c d) {s : Nat} (hs : s < zs_n c) : d 1 s = zn_mk 12 (fun a => zc_AB (c 0) a s) := h.2.1 s hs
theorem zx_D2 (h : zx_D c d) {s : Nat} (hs : s < 12) : d 2 s = zn_mk (zs_n c) (fun x => zc_AB (c 0) s x) := h.2.2.1 s hs
theorem zx_D3 (h : zx_D c d) {s : Nat} (hs : s < 12) : d 3 s = zn_mk (zs_n c) (fun x => decide (0 < x) && decide (c 0 x = s)) := h.2.2.2.1 s hs
theorem zx_D4 (h : zx_D c d) {t : Nat} (ht : t < zs_q c) : d 4 t = zs_dm c t := h.2.2.2.2.1 t ht
variable {f_maxStates f_maxTransitions f_maxSituations f_sealed f_built f_stepTaken f_stepExited f_stepEntered f_place1 f_found : Int32} {f_stepAfter f_situation0 : Int64} {a_log a_logLength a_stepsTo a_nextPlace a_takenAt a_exitedAt a_enteredAt : Nat → Int32} {a_situations : Nat → Int64}
theorem zx_low7 {post : Int32 → Prop} {m : Nat} (hm : m < 2 ^ 31) (hn : zs_n c ≤ 12) : ∀ k i, i + k = zs_n c → post (nI (zn_fi (Nat.testBit m) 0 k i)) → wX_lowestState_2 post (nI m) f_maxStates f_maxTransitions (nI ev) f_maxSituations f_sealed f_built (nI (zs_n c)) (nI (d 6 0)) (nI (zs_q c)) f_stepAfter f_stepTaken f_stepExited f_stepEntered f_situation0 f_place1 f_found (zn_A (c 0)) (zn_A (c 1)) (zn_A (c 2)) (zn_A (c 3)) (zn_A (c 4)) (zn_A (d 0)) (zn_A (d 1)) (zn_A (d 2)) (zn_A (d 3)) (zn_A (c 5)) (zn_A (c 6)) (zn_A (c 7)) (zn_A (c 8)) (zn_A (c 9)) (zn_A (c 10)) (zn_A (d 4)) (zn_A (d 5)) a_log a_logLength a_situations a_stepsTo a_nextPlace a_takenAt a_exitedAt a_enteredAt (k + 1) (nI i) := by
  intro k
  induction k with
  | zero =>
    intro i hi hp
    exact br_t (nI_le (by omega) (by omega)) hp
  | succ k ih =>
    intro i hi hp
    refine br_f (nI_ge (by omega) (by omega)) ?_
    refine ek_if (zw_bit hm (by omega)) (fun h => ?_) (fun h => ?_)
    · rw [zn_fi_n h] at hp
      exact nm_r (nI_1 i) (ih (i + 1) (by omega) hp)
    · rw [zn_fi_t (zn_bt h)] at hp
      exact hp
theorem zx_low {post : Int32 → Prop} {m : Nat} (hm : m < 2 ^ 31) (hn : zs_n c ≤ 12) (hp : post (nI (zn_fi (Nat.testBit m) 0 (zs_n c) 0))) : wpX_lowestState post (f_maxStates, f_maxTransitions, nI ev, f_maxSituations, f_sealed, f_built, nI (zs_n c), nI (d 6 0), nI (zs_q c), f_stepAfter, f_stepTaken, f_stepExited, f_stepEntered, f_situation0, f_place1, f_found, zn_A (c 0), zn_A (c 1), zn_A (c 2), zn_A (c 3), zn_A (c 4), zn_A (d 0), zn_A (d 1), zn_A (d 2), zn_A (d 3), zn_A (c 5), zn_A (c 6), zn_A (c 7), zn_A (c 8), zn_A (c 9), zn_A (c 10), zn_A (d 4), zn_A (d 5), a_log, a_logLength, a_situations, a_stepsTo, a_nextPlace, a_takenAt, a_exitedAt, a_enteredAt) (nI m) :=
  ⟨zs_n c + 1, zx_low7 hm hn (zs_n c) 0 (Nat.zero_add _) hp⟩
theorem zx_lastIn {post : Int32 → Prop} {z s : Nat} (hz : z < 2 ^ 60) (hs : s < 12) (hp : post (nI (zw_L z s))) : wpX_lastIn post (f_maxStates, f_maxTransitions, nI ev, f_maxSituations, f_sealed, f_built, nI (zs_n c), nI (d 6 0), nI (zs_q c), f_stepAfter, f_stepTaken, f_stepExited, f_stepEntered, f_situation0, f_place1, f_found, zn_A (c 0), zn_A (c 1), zn_A (c 2), zn_A (c 3), zn_A (c 4), zn_A (d 0), zn_A (d 1), zn_A (d 2), zn_A (d 3), zn_A (c 5), zn_A (c 6), zn_A (c 7), zn_A (c 8), zn_A (c 9), zn_A (c 10), zn_A (d 4), zn_A (d 5), a_log, a_logLength, a_situations, a_stepsTo, a_nextPlace, a_takenAt, a_exitedAt, a_enteredAt) (lN z) (nI s) := by
  show post (((lN z >>> ((12 + (4 * nI s)).toInt64 &&& 63)) &&& 15).toInt32)
  rw [zw_last hz hs]
  exact hp
theorem zx_rem {post : SX → Prop} {z s ch : Nat} (hz : z < 2 ^ 60) (hs : s < 12) (hc : ch < 16) (hp : post (f_maxStates, f_maxTransitions, nI ev, f_maxSituations, f_sealed, f_built, nI (zs_n c), nI (d 6 0), nI (zs_q c), lN (zw_rc z s ch), f_stepTaken, f_stepExited, f_stepEntered, f_situation0, f_place1, f_found, zn_A (c 0), zn_A (c 1), zn_A (c 2), zn_A (c 3), zn_A (c 4), zn_A (d 0), zn_A (d 1), zn_A (d 2), zn_A (d 3), zn_A (c 5), zn_A (c 6), zn_A (c 7), zn_A (c 8), zn_A (c 9), zn_A (c 10), zn_A (d 4), zn_A (d 5), a_log, a_logLength, a_situations, a_stepsTo, a_nextPlace, a_takenAt, a_exitedAt, a_enteredAt)) : wpX_rememberChild post (f_maxStates, f_maxTransitions, nI ev, f_maxSituations, f_sealed, f_built, nI (zs_n c), nI (d 6 0), nI (zs_q c), lN z, f_stepTaken, f_stepExited, f_stepEntered, f_situation0, f_place1, f_found, zn_A (c 0), zn_A (c 1), zn_A (c 2), zn_A (c 3), zn_A (c 4), zn_A (d 0), zn_A (d 1), zn_A (d 2), zn_A (d 3), zn_A (c 5), zn_A (c 6), zn_A (c 7), zn_A (c 8), zn_A (c 9), zn_A (c 10), zn_A (d 4), zn_A (d 5), a_log, a_logLength, a_situations, a_stepsTo, a_nextPlace, a_takenAt, a_exitedAt, a_enteredAt) (nI s) (nI ch) := by
  refine nm_e (nm_r (zw_rem hz hs hc) ?_)
  exact hp
/-- what the masks path and rec say -/
def zx_PR (c : Nat → Nat → Nat) (tg md path rec : Nat) : Prop := path < 2 ^ 12 ∧ rec < 2 ^ 12 ∧ (∀ x, 0 < x → x < zs_n c → path.testBit x = (decide (x = tg) || zc_AB (c 0) x tg)) ∧ (∀ s, s < zs_n c → rec.testBit s = zs_hs c tg md s)
theorem zx_d3lt (hG : zs_G c ev) (hD : zx_D c d) {s : Nat} (hs : s < 12) : d 3 s < 2 ^ 12 := by
  rw [zx_D3 hD hs]
  exact zn_mk_lt' (zs_Gn hG).2.1 _
theorem zx_cpm (hG : zs_G c ev) (hD : zx_D c d) {tg md path rec s : Nat} (hP : zx_PR c tg md path rec) (hs : s < 12) {x : Nat} (hx : x < zs_n c) : (d 3 s &&& path).testBit x = zc_cp (c 0) s tg x := by
  rw [Nat.testBit_and, zx_D3 hD hs, zn_mk_in hx]
  show ((decide (0 < x) && decide (c 0 x = s)) && path.testBit x) = (decide (0 < x) && (decide (c 0 x = s) && (decide (x = tg) || zc_AB (c 0) x tg)))
  by_cases h0 : 0 < x
  · rw [hP.2.2.1 x h0 hx, Bool.and_assoc]
  · rw [decide_eq_false h0]; rfl
theorem zx_cc {post : Int32 → Prop} (hG : zs_G c ev) (hD : zx_D c d) {tg md path rec B s : Nat} (hP : zx_PR c tg md path rec) (hB : B < 2 ^ 60) (ht : tg < zs_n c) (hs : s < zs_n c) (hp : post (nI (zs_pk c tg md B s))) : wpX_chooseChild post (f_maxStates, f_maxTransitions, nI ev, f_maxSituations, f_sealed, f_built, nI (zs_n c), nI (d 6 0), nI (zs_q c), f_stepAfter, f_stepTaken, f_stepExited, f_stepEntered, f_situation0, f_place1, f_found, zn_A (c 0), zn_A (c 1), zn_A (c 2), zn_A (c 3), zn_A (c 4), zn_A (d 0), zn_A (d 1), zn_A (d 2), zn_A (d 3), zn_A (c 5), zn_A (c 6), zn_A (c 7), zn_A (c 8), zn_A (c 9), zn_A (c 10), zn_A (d 4), zn_A (d 5), a_log, a_logLength, a_situations, a_stepsTo, a_nextPlace, a_takenAt, a_exitedAt, a_enteredAt) (nI s) (nI path) (nI rec) (lN B) := by
  have hn := zs_Gn hG
  have vin : vp_in (nI s) 12 := vp_in_nI (by omega) (by decide)
  have hlt : d 3 s &&& path < 2 ^ 12 := Nat.and_lt_two_pow _ hP.1
  have e6 : zn_A (d 3) (nI s).toNatClampNeg &&& nI path = nI (d 3 s &&& path) := by rw [zn_rd (d 3) (by omega), nx_and]
  have eini : zn_A (c 2) (nI s).toNatClampNeg = nI (c 2 s) := zn_rd (c 2) (by omega)
  refine And.intro vin (nm_r e6 ?_)
  refine ek_if (zn_e0 (by omega)) (fun h0 => ?_) (fun h0 => ?_)
  · have hA : ¬ zc_AB (c 0) s tg = true := by
      intro hA
      obtain ⟨x, hx, hc⟩ := zc_cp_ex (zs_GP hG) tg ht hA
      rw [← zx_cpm hG hD hP (by omega) hx, h0, Nat.zero_testBit] at hc
      exact absurd hc (by decide)
    have hini : (zs_hs c tg md s && !decide (zw_L B s = 0)) = false → post (zn_A (c 2) (nI s).toNatClampNeg) := by
      intro h
      rw [eini]
      unfold zs_pk at hp
      rw [if_neg hA, h, if_neg (by decide)] at hp
      exact hp
    refine ek_if (zw_bit (by have := hP.2.1; omega) (by omega)) (fun h => ?_) (fun h => ?_)
    · refine And.intro vin (hini ?_)
      rw [← hP.2.2.2 s hs, h]; rfl
    · have h1 : zs_hs c tg md s = true := by rw [← hP.2.2.2 s hs]; exact zn_bt h
      refine zx_lastIn hB (by omega) ?_
      refine ek_if (zn_e0 (by have := zw_L_lt B s; omega)) (fun h2 => ?_) (fun h2 => ?_)
      · refine And.intro vin (hini ?_)
        rw [decide_eq_true h2]; simp
      · unfold zs_pk at hp
        rw [if_neg hA, h1, decide_eq_false h2, if_pos (by decide)] at hp
        exact hp
  · have hA : zc_AB (c 0) s tg = true := by
      have h1 : ¬ ∀ i, (d 3 s &&& path).testBit i = false := fun h => h0 (zn_nz.mpr h)
      cases hA : zc_AB (c 0) s tg
      · exfalso
        apply h1
        intro i
        by_cases hi : i < zs_n c
        · rw [zx_cpm hG hD hP (by omega) hi]
          cases hc : zc_cp (c 0) s tg i
          · rfl
          · rw [zc_cp_AB (zs_GP hG) ht hc] at hA; exact absurd hA (by decide)
        · rw [Nat.testBit_and, zx_D3 hD (by omega), zn_mk_out (by omega), Bool.false_and]
      · rfl
    refine zx_low (by omega) hn.2.1 ?_
    rw [zn_fi_cg (g := zc_cp (c 0) s tg) _ 0 (fun x _ hx => zx_cpm hG hD hP (by omega) (by omega))]
    unfold zs_pk at hp
    rw [if_pos hA] at hp
    exact hp
theorem zx_k1 (hG : zs_G c ev) (hD : zx_D c d) {tg md B s : Nat} (hs : s < zs_n c) (hk : c 1 s = 1) : d 3 s = zs_cm c tg md B s := by
  have hn := zs_Gn hG
  rw [zx_D3 hD (by omega)]
  apply zn_mk_cg
  intro x _
  unfold zs_cq
  rw [decide_eq_true hk, Bool.true_or, Bool.and_true]
theorem zx_ini1 (hG : zs_G c ev) {s : Nat} (hs : s < zs_n c) (hk : c 1 s = 1) : c 2 s = 0 := by
  by_cases h : c 2 s = 0
  · exact h
  · have := (zs_Gi hG hs h).1; omega
theorem zx_c0 (hG : zs_G c ev) (hD : zx_D c d) {tg md B s : Nat} (hs : s < zs_n c) (h0 : d 3 s = 0) : c 2 s = 0 ∧ zs_cm c tg md B s = 0 := by
  have hn := zs_Gn hG
  have hb : ∀ x, 0 < x → x < zs_n c → c 0 x = s → False := by
    intro x hx hx2 e
    have h1 : (d 3 s).testBit x = true := by
      rw [zx_D3 hD (by omega), zn_mk_in hx2, decide_eq_true hx, decide_eq_true e]; rfl
    rw [h0, Nat.zero_testBit] at h1
    exact absurd h1 (by decide)
  constructor
  · by_cases h : c 2 s = 0
    · exact h
    · have := zs_Gi hG hs h
      exact absurd (hb (c 2 s) (by omega) this.2.1 this.2.2) id
  · apply zn_mk_0
    intro x hx
    unfold zs_cq
    by_cases h1 : 0 < x
    · rw [decide_eq_false (p := c 0 x = s) (fun e => hb x h1 hx e), Bool.false_and, Bool.and_false]
    · rw [decide_eq_false h1, Bool.false_and]
theorem zx_cp1 (hG : zs_G c ev) {tg md B s : Nat} (hB : zs_WL c B) (ht : tg < zs_n c) (hs : s < zs_n c) (hi : c 2 s ≠ 0) : zs_cm c tg md B s = 2 ^ zs_pk c tg md B s := by
  have a := zs_pk_sp hG (md := md) hB ht hs hi
  have hk := (zs_Gi hG hs hi).1
  symm
  apply zn_mk_of (zs_2p a.2.1)
  intro x _
  rw [Nat.testBit_two_pow]
  unfold zs_cq
  rw [decide_eq_false (p := c 1 s = 1) (by omega), Bool.false_or]
  by_cases e : zs_pk c tg md B s = x
  · rw [decide_eq_true e, decide_eq_true e.symm, decide_eq_true (show 0 < x by omega), decide_eq_true (show c 0 x = s by rw [← e]; exact a.2.2)]; rfl
  · rw [decide_eq_false e, decide_eq_false (p := x = zs_pk c tg md B s) (fun h => e h.symm), Bool.and_false, Bool.and_false]
theorem zx_enC {post : Int32 → SX → Prop} (hG : zs_G c ev) (hD : zx_D c d) {tg md path rec B s z : Nat} (hP : zx_PR c tg md path rec) (hB : zs_WL c B) (hz : z < 2 ^ 60) (ht : tg < zs_n c) (hs : s < zs_n c) (hp : post (nI (zs_cm c tg md B s)) (f_maxStates, f_maxTransitions, nI ev, f_maxSituations, f_sealed, f_built, nI (zs_n c), nI (d 6 0), nI (zs_q c), lN (if c 2 s = 0 then z else zw_rc z s (zs_pk c tg md B s)), f_stepTaken, f_stepExited, f_stepEntered, f_situation0, f_place1, f_found, zn_A (c 0), zn_A (c 1), zn_A (c 2), zn_A (c 3), zn_A (c 4), zn_A (d 0), zn_A (d 1), zn_A (d 2), zn_A (d 3), zn_A (c 5), zn_A (c 6), zn_A (c 7), zn_A (c 8), zn_A (c 9), zn_A (c 10), zn_A (d 4), zn_A (d 5), a_log, a_logLength, a_situations, a_stepsTo, a_nextPlace, a_takenAt, a_exitedAt, a_enteredAt)) : wpX_enterChildren post (f_maxStates, f_maxTransitions, nI ev, f_maxSituations, f_sealed, f_built, nI (zs_n c), nI (d 6 0), nI (zs_q c), lN z, f_stepTaken, f_stepExited, f_stepEntered, f_situation0, f_place1, f_found, zn_A (c 0), zn_A (c 1), zn_A (c 2), zn_A (c 3), zn_A (c 4), zn_A (d 0), zn_A (d 1), zn_A (d 2), zn_A (d 3), zn_A (c 5), zn_A (c 6), zn_A (c 7), zn_A (c 8), zn_A (c 9), zn_A (c 10), zn_A (d 4), zn_A (d 5), a_log, a_logLength, a_situations, a_stepsTo, a_nextPlace, a_takenAt, a_exitedAt, a_enteredAt) (nI s) (nI path) (nI rec) (lN B) := by
  have hn := zs_Gn hG
  have vin : vp_in (nI s) 12 := vp_in_nI (by omega) (by decide)
  have ech : zn_A (d 3) (nI s).toNatClampNeg = nI (d 3 s) := zn_rd (d 3) (by omega)
  have hlt := zx_d3lt hG hD (s := s) (by omega)
  refine And.intro vin ?_
  refine ek_if (zn_req (v := 1) (by omega) (zs_Gb hG 1 s) (by decide)) (fun h1 => ?_) (fun h1 => ?_)
  · refine And.intro vin ?_
    rw [ech, zx_k1 hG hD (tg := tg) (md := md) (B := B) hs h1]
    rw [if_pos (zx_ini1 hG hs h1)] at hp
    exact hp
  · refine And.intro vin ?_
    refine ek_if (zn_req (v := 0) (by omega) (by omega) (by decide)) (fun h2 => ?_) (fun h2 => ?_)
    · refine And.intro vin ?_
      have a := zx_c0 hG hD (tg := tg) (md := md) (B := B) hs h2
      rw [if_pos a.1, a.2] at hp
      rw [ech, h2]
      exact hp
    · have hk : c 1 s = 0 := by have := zs_Gk hG hs; omega
      have hi : c 2 s ≠ 0 := by
        intro h
        apply h2
        rw [zx_D3 hD (by omega)]
        apply zn_mk_0
        intro x hx
        by_cases h3 : 0 < x
        · by_cases h4 : c 0 x = s
          · exfalso
            have := zs_Gc hG h3 hx (by rw [h4]; exact hk)
            rw [h4] at this
            exact this h
          · rw [decide_eq_false h4, Bool.and_false]
        · rw [decide_eq_false h3, Bool.false_and]
      have a := zs_pk_sp hG (md := md) hB ht hs hi
      rw [if_neg hi, zx_cp1 hG hB ht hs hi] at hp
      refine zx_cc hG hD hP hB.1 ht hs ?_
      refine zx_rem hz (by omega) (zs_n16 hG a.2.1) ?_
      show post ((1 : Int32) <<< (nI (zs_pk c tg md B s) &&& 31)) _
      rw [zw_shl (by have := zs_n16 hG a.2.1; omega)]
      exact hp
theorem zx_enL {post : SX → Prop} (hG : zs_G c ev) (hD : zx_D c d) {tg md path rec B en : Nat} (hP : zx_PR c tg md path rec) (hB : zs_WL c B) (ht : tg < zs_n c) : ∀ k s (w : Nat × Nat), s + k = zs_n c → w.1 < 2 ^ zs_n c → zs_WL c w.2 → post (f_maxStates, f_maxTransitions, nI ev, f_maxSituations, f_sealed, f_built, nI (zs_n c), nI (d 6 0), nI (zs_q c), lN (zs_eL c tg md B k s w).2, f_stepTaken, f_stepExited, nI (en ||| (zs_eL c tg md B k s w).1), f_situation0, f_place1, f_found, zn_A (c 0), zn_A (c 1), zn_A (c 2), zn_A (c 3), zn_A (c 4), zn_A (d 0), zn_A (d 1), zn_A (d 2), zn_A (d 3), zn_A (c 5), zn_A (c 6), zn_A (c 7), zn_A (c 8), zn_A (c 9), zn_A (c 10), zn_A (d 4), zn_A (d 5), a_log, a_logLength, a_situations, a_stepsTo, a_nextPlace, a_takenAt, a_exitedAt, a_enteredAt) → wX_enterSubtree_8 post (nI path) (nI rec) (lN B) (k + 1) (nI w.1) (nI s) f_maxStates f_maxTransitions (nI ev) f_maxSituations f_sealed f_built (nI (zs_n c)) (nI (d 6 0)) (nI (zs_q c)) (lN w.2) f_stepTaken f_stepExited (nI en) f_situation0 f_place1 f_found (zn_A (c 0)) (zn_A (c 1)) (zn_A (c 2)) (zn_A (c 3)) (zn_A (c 4)) (zn_A (d 0)) (zn_A (d 1)) (zn_A (d 2)) (zn_A (d 3)) (zn_A (c 5)) (zn_A (c 6)) (zn_A (c 7)) (zn_A (c 8)) (zn_A (c 9)) (zn_A (c 10)) (zn_A (d 4)) (zn_A (d 5)) a_log a_logLength a_situations a_stepsTo a_nextPlace a_takenAt a_exitedAt a_enteredAt := by
  intro k
  have hn := zs_Gn hG
  induction k with
  | zero =>
    intro s w hs h1 h2 hp
    exact br_t (nI_le (by omega) (by omega)) (nm_r (zw_or en w.1) hp)
  | succ k ih =>
    intro s w hs h1 h2 hp
    have h12 := zs_n12 hG h1
    rw [zs_eL_s] at hp
    refine br_f (nI_ge (by omega) (by omega)) ?_
    refine ek_if (zw_bit (by omega) (by omega)) (fun h => ?_) (fun h => ?_)
    · rw [zs_eS_n h] at hp
      exact nm_r (nI_1 s) (ih (s + 1) w (by omega) h1 h2 hp)
    · have a := zs_eS_I hG (md := md) (s := s) hB ht (by omega) h1 h2
      have e := zs_eS_t (c := c) (tg := tg) (md := md) (B := B) (zn_bt h)
      refine zx_enC hG hD hP hB h2.1 ht (by omega) ?_
      refine nm_r (zw_or _ _) (nm_r (nI_1 s) ?_)
      have := ih (s + 1) _ (by omega) a.1 a.2 hp
      rw [e] at this
      exact this
theorem zx_enS {post : SX → Prop} (hG : zs_G c ev) (hD : zx_D c d) {tg md path rec B en f y : Nat} (hP : zx_PR c tg md path rec) (hB : zs_WL c B) (ht : tg < zs_n c) (hf : f < zs_n c) (hy : zs_WL c y) (hp : post (f_maxStates, f_maxTransitions, nI ev, f_maxSituations, f_sealed, f_built, nI (zs_n c), nI (d 6 0), nI (zs_q c), lN (zs_eL c tg md B (zs_n c) 0 (2 ^ f, y)).2, f_stepTaken, f_stepExited, nI (en ||| (zs_eL c tg md B (zs_n c) 0 (2 ^ f, y)).1), f_situation0, f_place1, f_found, zn_A (c 0), zn_A (c 1), zn_A (c 2), zn_A (c 3), zn_A (c 4), zn_A (d 0), zn_A (d 1), zn_A (d 2), zn_A (d 3), zn_A (c 5), zn_A (c 6), zn_A (c 7), zn_A (c 8), zn_A (c 9), zn_A (c 10), zn_A (d 4), zn_A (d 5), a_log, a_logLength, a_situations, a_stepsTo, a_nextPlace, a_takenAt, a_exitedAt, a_enteredAt)) : wpX_enterSubtree post (f_maxStates, f_maxTransitions, nI ev, f_maxSituations, f_sealed, f_built, nI (zs_n c), nI (d 6 0), nI (zs_q c), lN y, f_stepTaken, f_stepExited, nI en, f_situation0, f_place1, f_found, zn_A (c 0), zn_A (c 1), zn_A (c 2), zn_A (c 3), zn_A (c 4), zn_A (d 0), zn_A (d 1), zn_A (d 2), zn_A (d 3), zn_A (c 5), zn_A (c 6), zn_A (c 7), zn_A (c 8), zn_A (c 9), zn_A (c 10), zn_A (d 4), zn_A (d 5), a_log, a_logLength, a_situations, a_stepsTo, a_nextPlace, a_takenAt, a_exitedAt, a_enteredAt) (nI f) (nI path) (nI rec) (lN B) := by
  have hn := zs_Gn hG
  refine nm_r (zw_shl (by omega)) ⟨zs_n c - f + 1, ?_⟩
  have e := zs_eL_skip (c := c) (tg := tg) (md := md) (B := B) (w := (2 ^ f, y)) f (zs_n c - f) 0 (fun j _ hj => by
    show (2 ^ f).testBit j = false
    rw [Nat.testBit_two_pow, decide_eq_false (by omega)])
  rw [show f + (zs_n c - f) = zs_n c from by omega, Nat.zero_add] at e
  rw [e] at hp
  exact zx_enL hG hD hP hB ht (zs_n c - f) f (2 ^ f, y) (by omega) (zs_2p hf) hy hp
theorem zx_rep {post : SX → Prop} {z a : Nat} (hz : z < 2 ^ 60) (ha : a < 2 ^ 12) (hp : post (f_maxStates, f_maxTransitions, nI ev, f_maxSituations, f_sealed, f_built, nI (zs_n c), nI (d 6 0), nI (zs_q c), lN (zw_ra z a), f_stepTaken, f_stepExited, f_stepEntered, f_situation0, f_place1, f_found, zn_A (c 0), zn_A (c 1), zn_A (c 2), zn_A (c 3), zn_A (c 4), zn_A (d 0), zn_A (d 1), zn_A (d 2), zn_A (d 3), zn_A (c 5), zn_A (c 6), zn_A (c 7), zn_A (c 8), zn_A (c 9), zn_A (c 10), zn_A (d 4), zn_A (d 5), a_log, a_logLength, a_situations, a_stepsTo, a_nextPlace, a_takenAt, a_exitedAt, a_enteredAt)) : wpX_replaceActive post (f_maxStates, f_maxTransitions, nI ev, f_maxSituations, f_sealed, f_built, nI (zs_n c), nI (d 6 0), nI (zs_q c), lN z, f_stepTaken, f_stepExited, f_stepEntered, f_situation0, f_place1, f_found, zn_A (c 0), zn_A (c 1), zn_A (c 2), zn_A (c 3), zn_A (c 4), zn_A (d 0), zn_A (d 1), zn_A (d 2), zn_A (d 3), zn_A (c 5), zn_A (c 6), zn_A (c 7), zn_A (c 8), zn_A (c 9), zn_A (c 10), zn_A (d 4), zn_A (d 5), a_log, a_logLength, a_situations, a_stepsTo, a_nextPlace, a_takenAt, a_exitedAt, a_enteredAt) (nI a) := by
  refine nm_r (zw_rep hz ha) ?_
  exact hp
theorem zx_PR0 (hG : zs_G c ev) : zx_PR c 0 0 0 0 := by
  refine ⟨by decide, by decide, fun x h0 hx => ?_, fun s hs => ?_⟩
  · rw [Nat.zero_testBit, zc_AB_0, decide_eq_false (by omega)]; rfl
  · rw [Nat.zero_testBit]
    unfold zs_hs
    simp
theorem zx_cStart {post : SX → Prop} (hG : zs_G c ev) (hD : zx_D c d) (hp : post (f_maxStates, f_maxTransitions, nI ev, f_maxSituations, f_sealed, f_built, nI (zs_n c), nI (d 6 0), nI (zs_q c), lN (zs_z0 c), 0, 0, nI (zs_st c).1, f_situation0, f_place1, f_found, zn_A (c 0), zn_A (c 1), zn_A (c 2), zn_A (c 3), zn_A (c 4), zn_A (d 0), zn_A (d 1), zn_A (d 2), zn_A (d 3), zn_A (c 5), zn_A (c 6), zn_A (c 7), zn_A (c 8), zn_A (c 9), zn_A (c 10), zn_A (d 4), zn_A (d 5), a_log, a_logLength, a_situations, a_stepsTo, a_nextPlace, a_takenAt, a_exitedAt, a_enteredAt)) : wpX_computeStart post (f_maxStates, f_maxTransitions, nI ev, f_maxSituations, f_sealed, f_built, nI (zs_n c), nI (d 6 0), nI (zs_q c), f_stepAfter, f_stepTaken, f_stepExited, f_stepEntered, f_situation0, f_place1, f_found, zn_A (c 0), zn_A (c 1), zn_A (c 2), zn_A (c 3), zn_A (c 4), zn_A (d 0), zn_A (d 1), zn_A (d 2), zn_A (d 3), zn_A (c 5), zn_A (c 6), zn_A (c 7), zn_A (c 8), zn_A (c 9), zn_A (c 10), zn_A (d 4), zn_A (d 5), a_log, a_logLength, a_situations, a_stepsTo, a_nextPlace, a_takenAt, a_exitedAt, a_enteredAt) := by
  have hn := zs_Gn hG
  have a := zs_st_I hG
  refine zx_enS (f := 0) (en := 0) hG hD (zx_PR0 hG) zs_WL_0 (by omega) (by omega) zs_WL_0 ?_
  rw [Nat.zero_or]
  exact zx_rep a.2.1 (zs_n12 hG a.1) hp
end ZXS
end
section
section ZXT
/-! the component's walks: choosing, stepping -/
variable {c d : Nat → Nat → Nat} {ev : Nat}
variable {f_maxStates f_maxTransitions f_maxSituations f_sealed f_built f_stepTaken f_stepExited f_stepEntered f_place1 f_found : Int32} {f_stepAfter f_situation0 : Int64} {a_log a_logLength a_stepsTo a_nextPlace a_takenAt a_exitedAt a_enteredAt : Nat → Int32} {a_situations : Nat → Int64}
theorem zx_and1 {g : Nat} (hg : g < 2 ^ 31) : nI g &&& 1 = nI (g % 2) := by
  show nI g &&& nI 1 = _
  rw [nx_and, Nat.and_one_is_mod]
theorem zx_isEn {post : Int32 → Prop} (hG : zs_G c ev) {z e t : Nat} (he : e < 2 ^ 31) (ht : t < zs_q c) (hp : post (zn_b (zs_EN c z e t))) : wpX_isEnabled post (f_maxStates, f_maxTransitions, nI ev, f_maxSituations, f_sealed, f_built, nI (zs_n c), nI (d 6 0), nI (zs_q c), f_stepAfter, f_stepTaken, f_stepExited, f_stepEntered, f_situation0, f_place1, f_found, zn_A (c 0), zn_A (c 1), zn_A (c 2), zn_A (c 3), zn_A (c 4), zn_A (d 0), zn_A (d 1), zn_A (d 2), zn_A (d 3), zn_A (c 5), zn_A (c 6), zn_A (c 7), zn_A (c 8), zn_A (c 9), zn_A (c 10), zn_A (d 4), zn_A (d 5), a_log, a_logLength, a_situations, a_stepsTo, a_nextPlace, a_takenAt, a_exitedAt, a_enteredAt) (nI t) (nI (z % 4096)) (nI e) := by
  have hn := zs_Gn hG
  obtain ⟨a1, a2, a3, a4, a5, a6⟩ := zs_Gt hG ht
  have vin : vp_in (nI t) 16 := vp_in_nI (by omega) (by decide)
  have hz : z % 4096 < 4096 := Nat.mod_lt _ (by decide)
  have esr : zn_A (c 5) (nI t).toNatClampNeg = nI (c 5 t) := zn_rd (c 5) (by omega)
  have egd : zn_A (c 9) (nI t).toNatClampNeg = nI (c 9 t) := zn_rd (c 9) (by omega)
  unfold zs_EN at hp
  refine And.intro vin ?_
  refine ek_if (zn_req (by omega) (zs_Gb hG 6 t) he) (fun h1 => ?_) (fun h1 => ?_)
  · rw [decide_eq_true h1, Bool.true_and] at hp
    refine And.intro vin ?_
    rw [esr]
    refine ek_if (zw_bit (by omega) (by omega)) (fun h2 => ?_) (fun h2 => ?_)
    · rw [zw_a_in z (by omega)] at h2
      rw [h2, Bool.false_and] at hp
      exact hp
    · rw [zw_a_in z (by omega)] at h2
      rw [zn_bt h2, Bool.true_and] at hp
      refine And.intro vin (nm_r egd ?_)
      refine pk_le 2 (c 9 t) (fun h3 => ?_) (fun h3 => ?_) rfl rfl (by decide) (zs_Gb hG 9 t)
      · have e1 : nI (c 9 t) / 2 - 1 = nI (c 9 t / 2 - 1) := by
          rw [show (2 : Int32) = nI 2 from rfl, pk_div (zs_Gb hG 9 t) (by decide) (by decide)]
          exact pk_sub (b := 1) (by omega)
        refine And.intro (by decide) ?_
        rw [e1, zw_shr (by omega) (by omega), zx_and1 (zs_Gb hG 9 t), zw_a_in z (by omega)]
        rw [decide_eq_false (show ¬ c 9 t = 0 by omega), Bool.false_or] at hp
        rcases Nat.mod_two_eq_zero_or_one (c 9 t) with e | e
        · rw [e] at hp ⊢
          cases hb : z.testBit (c 9 t / 2 - 1)
          · rw [hb] at hp; exact br_t rfl hp
          · rw [hb] at hp; exact br_f (by decide) hp
        · rw [e] at hp ⊢
          cases hb : z.testBit (c 9 t / 2 - 1)
          · rw [hb] at hp; exact br_f (by decide) hp
          · rw [hb] at hp; exact br_t rfl hp
      · rw [decide_eq_true (show c 9 t = 0 by omega), Bool.true_or] at hp
        exact hp
  · rw [decide_eq_false h1, Bool.false_and] at hp
    exact hp
/-- t stands among the first i of the order -/
def zx_pr (d : Nat → Nat → Nat) (i t : Nat) : Bool := zn_any i (fun j => decide (d 5 j = t))
theorem zx_pr_s {i t : Nat} : zx_pr d (i + 1) t = (zx_pr d i t || decide (d 5 i = t)) := rfl
theorem zx_pr_t {i t : Nat} : zx_pr d i t = true ↔ ∃ j, j < i ∧ d 5 j = t := by
  unfold zx_pr
  rw [zn_any_t]
  constructor
  · rintro ⟨j, hj, h⟩; exact ⟨j, hj, decide_eq_true_iff.mp h⟩
  · rintro ⟨j, hj, h⟩; exact ⟨j, hj, decide_eq_true_iff.mpr h⟩
theorem zx_BF_as {u t : Nat} (h : zs_BF c u t = true) (h2 : zs_BF c t u = true) : False := by
  have a := zs_BF_t.mp h
  have b := zs_BF_t.mp h2
  omega
/-- what was taken and what is blocked when i of the order are done -/
def zx_TI (c d : Nat → Nat → Nat) (z e i T bl : Nat) : Prop := T < 2 ^ zs_q c ∧ bl < 2 ^ 12 ∧ (∀ t, t < zs_q c → T.testBit t = (zs_TK c z e t && zx_pr d i t)) ∧ (∀ x, x < zs_n c → bl.testBit x = zn_any (zs_q c) (fun u => T.testBit u && zs_CF c x (zs_dm c u)))
theorem zx_TI_keep {z e i T bl : Nat} (h : zx_TI c d z e i T bl) (ht : zs_TK c z e (d 5 i) = false) : zx_TI c d z e (i + 1) T bl := by
  refine ⟨h.1, h.2.1, fun t htq => ?_, h.2.2.2⟩
  rw [h.2.2.1 t htq, zx_pr_s]
  by_cases e1 : d 5 i = t
  · rw [← e1, ht, Bool.false_and, Bool.false_and]
  · rw [decide_eq_false e1, Bool.or_false]
theorem zx_TI_blk (hG : zs_G c ev) (hD : zx_D c d) {z e i T bl : Nat} (h : zx_TI c d z e i T bl) (hi : i < zs_q c) (hb : bl.testBit (zs_dm c (d 5 i)) = true) : zs_TK c z e (d 5 i) = false := by
  obtain ⟨o1, o2, o3⟩ := hD.2.2.2.2.2.1
  have ht := o1 i hi
  rw [h.2.2.2 _ (zs_dmlt hG ht)] at hb
  obtain ⟨u, hu, hc⟩ := (zn_any_t _).mp hb
  rw [Bool.and_eq_true, h.2.2.1 u hu, Bool.and_eq_true] at hc
  obtain ⟨⟨k1, k2⟩, k3⟩ := hc
  obtain ⟨j, hj, ej⟩ := zx_pr_t.mp k2
  have hbf : zs_BF c u (d 5 i) = true := by rw [← ej]; exact o2 j i hj hi
  rw [zs_TK_eq hG ht]
  rw [(zn_any_t _).mpr ⟨u, hu, by rw [hbf, k1, k3]; rfl⟩]
  simp
theorem zx_TI_fr (hG : zs_G c ev) (hD : zx_D c d) {z e i T bl : Nat} (h : zx_TI c d z e i T bl) (hi : i < zs_q c) (hb : bl.testBit (zs_dm c (d 5 i)) = false) : zs_TK c z e (d 5 i) = zs_EN c z e (d 5 i) := by
  obtain ⟨o1, o2, o3⟩ := hD.2.2.2.2.2.1
  have ht := o1 i hi
  rw [h.2.2.2 _ (zs_dmlt hG ht)] at hb
  have hb2 := zn_any_f.mp hb
  rw [zs_TK_eq hG ht, zn_any_f.mpr (fun u hu => ?_)]
  · simp
  · cases k1 : zs_BF c u (d 5 i)
    · rfl
    · cases k2 : zs_TK c z e u
      · rfl
      · obtain ⟨j, hj, ej⟩ := o3 u hu
        have hji : j < i := by
          rcases Nat.lt_trichotomy j i with a | a | a
          · exact a
          · exfalso
            rw [← ej, a] at k1
            exact zx_BF_as k1 k1
          · exfalso
            have := o2 i j a hj
            rw [ej] at this
            exact zx_BF_as k1 this
        have h2 := hb2 u hu
        rw [h.2.2.1 u hu, k2, zx_pr_t.mpr ⟨j, hji, ej⟩] at h2
        exact h2
theorem zx_TI_add (hG : zs_G c ev) (hD : zx_D c d) {z e i T bl : Nat} (h : zx_TI c d z e i T bl) (hi : i < zs_q c) (hk : zs_TK c z e (d 5 i) = true) : zx_TI c d z e (i + 1) (T ||| 2 ^ d 5 i) (bl ||| ((d 1 (zs_dm c (d 5 i)) ||| d 2 (zs_dm c (d 5 i))) ||| 2 ^ zs_dm c (d 5 i))) := by
  have hn := zs_Gn hG
  obtain ⟨o1, o2, o3⟩ := hD.2.2.2.2.2.1
  have ht := o1 i hi
  have hd := zs_dmlt hG ht
  have e1 := zx_D1 hD hd
  have e2 := zx_D2 hD (s := zs_dm c (d 5 i)) (by omega)
  have hT : ∀ t, (T ||| 2 ^ d 5 i).testBit t = (T.testBit t || decide (d 5 i = t)) := fun t => by rw [Nat.testBit_or, Nat.testBit_two_pow]
  refine ⟨Nat.or_lt_two_pow h.1 (zs_2p ht), ?_, fun t htq => ?_, fun x hx => ?_⟩
  · refine Nat.or_lt_two_pow h.2.1 (Nat.or_lt_two_pow (Nat.or_lt_two_pow ?_ ?_) (zs_2p (by omega)))
    · rw [e1]; exact zn_mk_lt _ _
    · rw [e2]; exact zn_mk_lt' hn.2.1 _
  · rw [hT, h.2.2.1 t htq, zx_pr_s]
    by_cases e3 : d 5 i = t
    · rw [decide_eq_true e3, ← e3, hk, Bool.or_true, Bool.or_true]; rfl
    · rw [decide_eq_false e3, Bool.or_false, Bool.or_false]
  · rw [Nat.testBit_or, Nat.testBit_or, Nat.testBit_or, h.2.2.2 x hx, e1, e2, zn_mk_in (show x < 12 by omega), zn_mk_in hx, Nat.testBit_two_pow]
    have hC : ((zc_AB (c 0) x (zs_dm c (d 5 i)) || zc_AB (c 0) (zs_dm c (d 5 i)) x) || decide (zs_dm c (d 5 i) = x)) = zs_CF c x (zs_dm c (d 5 i)) := by
      unfold zs_CF
      rw [Bool.or_comm]
      by_cases e4 : zs_dm c (d 5 i) = x
      · rw [decide_eq_true e4, decide_eq_true e4.symm]
      · rw [decide_eq_false e4, decide_eq_false (fun h => e4 h.symm)]
    rw [hC]
    cases hA : zn_any (zs_q c) (fun u => T.testBit u && zs_CF c x (zs_dm c u))
    · rw [Bool.false_or]
      cases hB : zs_CF c x (zs_dm c (d 5 i))
      · symm
        apply zn_any_f.mpr
        intro u hu
        have h5 := zn_any_f.mp hA u hu
        rw [hT]
        by_cases e4 : d 5 i = u
        · rw [← e4, hB, Bool.and_false]
        · rw [decide_eq_false e4, Bool.or_false]; exact h5
      · symm
        apply (zn_any_t _).mpr
        refine ⟨d 5 i, ht, ?_⟩
        rw [hT, decide_eq_true rfl, Bool.or_true, hB]; rfl
    · rw [Bool.true_or]
      symm
      apply (zn_any_t _).mpr
      obtain ⟨u, hu, h5⟩ := (zn_any_t _).mp hA
      refine ⟨u, hu, ?_⟩
      rw [Bool.and_eq_true] at h5
      rw [hT, h5.1, h5.2]; rfl
theorem zx_TI_0 {z e : Nat} : zx_TI c d z e 0 0 0 := by
  refine ⟨Nat.two_pow_pos _, by decide, fun t _ => ?_, fun x _ => ?_⟩
  · rw [Nat.zero_testBit]
    show false = (zs_TK c z e t && false)
    rw [Bool.and_false]
  · rw [Nat.zero_testBit]
    symm
    apply zn_any_f.mpr
    intro u _
    rw [Nat.zero_testBit, Bool.false_and]
theorem zx_TI_e (hD : zx_D c d) {z e T bl : Nat} (h : zx_TI c d z e (zs_q c) T bl) : T = zs_tkm c z e := by
  apply zn_mk_of h.1
  intro t ht
  obtain ⟨o1, o2, o3⟩ := hD.2.2.2.2.2.1
  rw [h.2.2.1 t ht, zx_pr_t.mpr (o3 t ht), Bool.and_true]
theorem zx_chL {post : Int32 → Prop} (hG : zs_G c ev) (hD : zx_D c d) {z e : Nat} (he : e < 2 ^ 31) (hp : post (nI (zs_tkm c z e))) : ∀ k i T bl, i + k = zs_q c → zx_TI c d z e i T bl → wX_chooseTransitions_8 post (nI (z % 4096)) (nI e) f_maxStates f_maxTransitions (nI ev) f_maxSituations f_sealed f_built (nI (zs_n c)) (nI (d 6 0)) (nI (zs_q c)) f_stepAfter f_stepTaken f_stepExited f_stepEntered f_situation0 f_place1 f_found (zn_A (c 0)) (zn_A (c 1)) (zn_A (c 2)) (zn_A (c 3)) (zn_A (c 4)) (zn_A (d 0)) (zn_A (d 1)) (zn_A (d 2)) (zn_A (d 3)) (zn_A (c 5)) (zn_A (c 6)) (zn_A (c 7)) (zn_A (c 8)) (zn_A (c 9)) (zn_A (c 10)) (zn_A (d 4)) (zn_A (d 5)) a_log a_logLength a_situations a_stepsTo a_nextPlace a_takenAt a_exitedAt a_enteredAt (k + 1) (nI T) (nI bl) (nI i) := by
  intro k
  have hn := zs_Gn hG
  obtain ⟨o1, o2, o3⟩ := hD.2.2.2.2.2.1
  induction k with
  | zero =>
    intro i T bl hi h
    have hi' : i = zs_q c := by omega
    subst hi'
    rw [← zx_TI_e hD h] at hp
    exact br_t (nI_le (by omega) (by omega)) hp
  | succ k ih =>
    intro i T bl hi h
    have ht := o1 i (by omega)
    have hd := zs_dmlt hG ht
    have vin : vp_in (nI (zs_dm c (d 5 i))) 12 := vp_in_nI (by omega) (by decide)
    have ed : zn_A (d 4) (nI (d 5 i)).toNatClampNeg = nI (zs_dm c (d 5 i)) := by rw [zn_rd (d 4) (by omega), zx_D4 hD ht]
    have hbl := h.2.1
    refine br_f (nI_ge (by omega) (by omega)) ?_
    refine And.intro (vp_in_nI (by omega) (by decide)) (nm_r (zn_rd (d 5) (by omega)) ?_)
    refine And.intro (vp_in_nI (by omega) (by decide)) (nm_r ed ?_)
    refine ek_if (zw_bit (by omega) (by omega)) (fun hb => ?_) (fun hb => ?_)
    · have hf := zx_TI_fr hG hD h (by omega) hb
      refine zx_isEn hG he ht ?_
      rw [← hf]
      refine ek_if zn_b0 (fun hk => ?_) (fun hk => ?_)
      · exact nm_r (nI_1 i) (ih (i + 1) T bl (by omega) (zx_TI_keep h hk))
      · have e1 : nI T ||| ((1 : Int32) <<< (nI (d 5 i) &&& 31)) = nI (T ||| 2 ^ d 5 i) := by rw [zw_shl (by omega), zw_or]
        have e2 : nI bl ||| ((zn_A (d 1) (nI (zs_dm c (d 5 i))).toNatClampNeg ||| zn_A (d 2) (nI (zs_dm c (d 5 i))).toNatClampNeg) ||| ((1 : Int32) <<< (nI (zs_dm c (d 5 i)) &&& 31))) = nI (bl ||| ((d 1 (zs_dm c (d 5 i)) ||| d 2 (zs_dm c (d 5 i))) ||| 2 ^ zs_dm c (d 5 i))) := by
          rw [zw_shl (by omega), zn_rd (d 1) (by omega), zn_rd (d 2) (by omega), zw_or, zw_or, zw_or]
        refine nm_r e1 (And.intro vin (And.intro vin (nm_r e2 (nm_r (nI_1 i) ?_))))
        exact ih (i + 1) _ _ (by omega) (zx_TI_add hG hD h (by omega) (zn_bt hk))
    · exact nm_r (nI_1 i) (ih (i + 1) T bl (by omega) (zx_TI_keep h (zx_TI_blk hG hD h (by omega) (zn_bt hb))))
theorem zx_chT {post : Int32 → Prop} (hG : zs_G c ev) (hD : zx_D c d) {z e : Nat} (he : e < 2 ^ 31) (hp : post (nI (zs_tkm c z e))) : wpX_chooseTransitions post (f_maxStates, f_maxTransitions, nI ev, f_maxSituations, f_sealed, f_built, nI (zs_n c), nI (d 6 0), nI (zs_q c), f_stepAfter, f_stepTaken, f_stepExited, f_stepEntered, f_situation0, f_place1, f_found, zn_A (c 0), zn_A (c 1), zn_A (c 2), zn_A (c 3), zn_A (c 4), zn_A (d 0), zn_A (d 1), zn_A (d 2), zn_A (d 3), zn_A (c 5), zn_A (c 6), zn_A (c 7), zn_A (c 8), zn_A (c 9), zn_A (c 10), zn_A (d 4), zn_A (d 5), a_log, a_logLength, a_situations, a_stepsTo, a_nextPlace, a_takenAt, a_exitedAt, a_enteredAt) (nI (z % 4096)) (nI e) :=
  ⟨zs_q c + 1, zx_chL hG hD he hp (zs_q c) 0 0 0 (Nat.zero_add _) zx_TI_0⟩
end ZXT
end
section
section ZXC
/-! the component's walks: a computed step -/
variable {c d : Nat → Nat → Nat} {ev : Nat}
variable {f_maxStates f_maxTransitions f_maxSituations f_sealed f_built f_stepTaken f_stepExited f_stepEntered f_place1 f_found : Int32} {f_stepAfter f_situation0 : Int64} {a_log a_logLength a_stepsTo a_nextPlace a_takenAt a_exitedAt a_enteredAt : Nat → Int32} {a_situations : Nat → Int64}
theorem zx_path (hD : zx_D c d) {tg : Nat} (ht : tg < zs_n c) (hn : zs_n c ≤ 12) : d 1 tg ||| 2 ^ tg < 2 ^ 12 ∧ ∀ x, 0 < x → x < zs_n c → (d 1 tg ||| 2 ^ tg).testBit x = (decide (x = tg) || zc_AB (c 0) x tg) := by
  constructor
  · rw [zx_D1 hD ht]
    exact Nat.or_lt_two_pow (zn_mk_lt _ _) (zs_2p (by omega))
  · intro x _ hx
    rw [Nat.testBit_or, zx_D1 hD ht, zn_mk_in (by omega), Nat.testBit_two_pow, Bool.or_comm]
    by_cases e : tg = x
    · rw [decide_eq_true e, decide_eq_true e.symm]
    · rw [decide_eq_false e, decide_eq_false (fun h => e h.symm)]
theorem zx_2tb (a x : Nat) : (2 ^ a).testBit x = decide (x = a) := by
  rw [Nat.testBit_two_pow]
  by_cases e : a = x
  · rw [decide_eq_true e, decide_eq_true e.symm]
  · rw [decide_eq_false e, decide_eq_false (fun h => e h.symm)]
theorem zx_PR_0 (hD : zx_D c d) {tg : Nat} (ht : tg < zs_n c) (hn : zs_n c ≤ 12) : zx_PR c tg 0 (d 1 tg ||| 2 ^ tg) 0 := by
  refine ⟨(zx_path hD ht hn).1, by decide, (zx_path hD ht hn).2, fun s hs => ?_⟩
  rw [Nat.zero_testBit]
  unfold zs_hs
  simp
theorem zx_PR_1 (hD : zx_D c d) {tg md : Nat} (ht : tg < zs_n c) (hn : zs_n c ≤ 12) (h0 : ¬ md = 0) (h2 : ¬ md = 2) : zx_PR c tg md (d 1 tg ||| 2 ^ tg) (2 ^ tg) := by
  refine ⟨(zx_path hD ht hn).1, zs_2p (by omega), (zx_path hD ht hn).2, fun s hs => ?_⟩
  rw [zx_2tb]
  unfold zs_hs
  rw [decide_eq_false h0, decide_eq_false h2]
  simp
theorem zx_PR_2 (hD : zx_D c d) {tg : Nat} (ht : tg < zs_n c) (hn : zs_n c ≤ 12) : zx_PR c tg 2 (d 1 tg ||| 2 ^ tg) (2 ^ tg ||| d 2 tg) := by
  refine ⟨(zx_path hD ht hn).1, Nat.or_lt_two_pow (zs_2p (by omega)) ?_, (zx_path hD ht hn).2, fun s hs => ?_⟩
  · rw [zx_D2 hD (by omega)]
    exact zn_mk_lt' hn _
  · rw [Nat.testBit_or, zx_2tb, zx_D2 hD (by omega), zn_mk_in hs]
    unfold zs_hs
    simp
theorem zx_e94 {post : SX → Prop} (hG : zs_G c ev) (hD : zx_D c d) {tg md path rec B en f y : Nat} (hP : zx_PR c tg md path rec) (hB : zs_WL c B) (ht : tg < zs_n c) (hf : f < zs_n c) (hy : zs_WL c y) (hp : post (f_maxStates, f_maxTransitions, nI ev, f_maxSituations, f_sealed, f_built, nI (zs_n c), nI (d 6 0), nI (zs_q c), lN (zs_eL c tg md B (zs_n c) 0 (2 ^ f, y)).2, f_stepTaken, f_stepExited, nI (en ||| (zs_eL c tg md B (zs_n c) 0 (2 ^ f, y)).1), f_situation0, f_place1, f_found, zn_A (c 0), zn_A (c 1), zn_A (c 2), zn_A (c 3), zn_A (c 4), zn_A (d 0), zn_A (d 1), zn_A (d 2), zn_A (d 3), zn_A (c 5), zn_A (c 6), zn_A (c 7), zn_A (c 8), zn_A (c 9), zn_A (c 10), zn_A (d 4), zn_A (d 5), a_log, a_logLength, a_situations, a_stepsTo, a_nextPlace, a_takenAt, a_exitedAt, a_enteredAt)) : wX_enterByTransition_94 post (lN B) (nI path) (nI f) (nI rec) f_maxStates f_maxTransitions (nI ev) f_maxSituations f_sealed f_built (nI (zs_n c)) (nI (d 6 0)) (nI (zs_q c)) (lN y) f_stepTaken f_stepExited (nI en) f_situation0 f_place1 f_found (zn_A (c 0)) (zn_A (c 1)) (zn_A (c 2)) (zn_A (c 3)) (zn_A (c 4)) (zn_A (d 0)) (zn_A (d 1)) (zn_A (d 2)) (zn_A (d 3)) (zn_A (c 5)) (zn_A (c 6)) (zn_A (c 7)) (zn_A (c 8)) (zn_A (c 9)) (zn_A (c 10)) (zn_A (d 4)) (zn_A (d 5)) a_log a_logLength a_situations a_stepsTo a_nextPlace a_takenAt a_exitedAt a_enteredAt := by
  unfold wX_enterByTransition_94
  refine zx_enS hG hD hP hB ht hf hy ?_
  exact hp
theorem zx_enT {post : SX → Prop} (hG : zs_G c ev) (hD : zx_D c d) {z en t y : Nat} (hz : zs_WL c z) (ht : t < zs_q c) (hy : zs_WL c y) (hp : post (f_maxStates, f_maxTransitions, nI ev, f_maxSituations, f_sealed, f_built, nI (zs_n c), nI (d 6 0), nI (zs_q c), lN (zs_tE c z t y).2, f_stepTaken, f_stepExited, nI (en ||| (zs_tE c z t y).1), f_situation0, f_place1, f_found, zn_A (c 0), zn_A (c 1), zn_A (c 2), zn_A (c 3), zn_A (c 4), zn_A (d 0), zn_A (d 1), zn_A (d 2), zn_A (d 3), zn_A (c 5), zn_A (c 6), zn_A (c 7), zn_A (c 8), zn_A (c 9), zn_A (c 10), zn_A (d 4), zn_A (d 5), a_log, a_logLength, a_situations, a_stepsTo, a_nextPlace, a_takenAt, a_exitedAt, a_enteredAt)) : wpX_enterByTransition post (f_maxStates, f_maxTransitions, nI ev, f_maxSituations, f_sealed, f_built, nI (zs_n c), nI (d 6 0), nI (zs_q c), lN y, f_stepTaken, f_stepExited, nI en, f_situation0, f_place1, f_found, zn_A (c 0), zn_A (c 1), zn_A (c 2), zn_A (c 3), zn_A (c 4), zn_A (d 0), zn_A (d 1), zn_A (d 2), zn_A (d 3), zn_A (c 5), zn_A (c 6), zn_A (c 7), zn_A (c 8), zn_A (c 9), zn_A (c 10), zn_A (d 4), zn_A (d 5), a_log, a_logLength, a_situations, a_stepsTo, a_nextPlace, a_takenAt, a_exitedAt, a_enteredAt) (nI t) (lN z) := by
  have hn := zs_Gn hG
  obtain ⟨a1, a2, a3, a4, a5, a6⟩ := zs_Gt hG ht
  have hd := zs_dmlt hG ht
  have hf := zs_fsp hG ht
  have hf16 := zs_n16 hG hf.2.1
  have vin : vp_in (nI t) 16 := vp_in_nI (by omega) (by decide)
  have vit : vp_in (nI (c 7 t)) 12 := vp_in_nI (by omega) (by decide)
  have ed : zn_A (d 4) (nI t).toNatClampNeg = nI (zs_dm c t) := by rw [zn_rd (d 4) (by omega), zx_D4 hD ht]
  have e5 : zn_A (d 1) (nI (c 7 t)).toNatClampNeg ||| ((1 : Int32) <<< (nI (c 7 t) &&& 31)) = nI (d 1 (c 7 t) ||| 2 ^ c 7 t) := by rw [zn_rd (d 1) (by omega), zw_shl (by omega), zw_or]
  have hpa := zx_path hD a4 hn.2.1
  have hWL := zs_WL_rc hG hy hd hf.2.1 hf.2.2
  have efi : zn_fi (Nat.testBit (d 3 (zs_dm c t) &&& (d 1 (c 7 t) ||| 2 ^ c 7 t))) 0 (zs_n c) 0 = zs_f c t := by
    apply zn_fi_cg
    intro x _ hx
    exact zx_cpm hG hD (zx_PR_0 hD a4 hn.2.1) (by omega) (by omega)
  have emd : zn_A (c 8) (nI t).toNatClampNeg = nI (c 8 t) := zn_rd (c 8) (by omega)
  refine And.intro vin (nm_r (zn_rd (c 7) (by omega)) (And.intro vit (nm_r e5 (And.intro vin ?_))))
  rw [ed]
  refine And.intro (vp_in_nI (by omega) (by decide)) ?_
  rw [zn_rd (d 3) (by omega), nx_and]
  refine zx_low (Nat.lt_of_le_of_lt Nat.and_le_right (by omega)) hn.2.1 ?_
  rw [efi]
  refine And.intro vin ?_
  refine zx_rem hy.1 (by omega) hf16 ?_
  refine And.intro vin ?_
  refine ek_if (zn_req (v := 0) (by omega) (zs_Gb hG 8 t) (by decide)) (fun h0 => ?_) (fun h0 => ?_)
  · unfold zs_tE at hp
    rw [h0] at hp
    refine And.intro vin ?_
    refine br_f ?_ ?_
    · rw [emd, h0]; decide
    · exact zx_e94 hG hD (rec := 0) (zx_PR_0 hD a4 hn.2.1) hz a4 hf.2.1 hWL hp
  · refine nm_r (zw_shl (by omega)) ?_
    refine And.intro vin ?_
    refine ek_if (zn_req (v := 2) (by omega) (zs_Gb hG 8 t) (by decide)) (fun h2 => ?_) (fun h2 => ?_)
    · unfold zs_tE at hp
      rw [h2] at hp
      have e7 : nI (2 ^ c 7 t) ||| zn_A (d 2) (nI (c 7 t)).toNatClampNeg = nI (2 ^ c 7 t ||| d 2 (c 7 t)) := by rw [zn_rd (d 2) (by omega), zw_or]
      refine And.intro vit (nm_r e7 ?_)
      exact zx_e94 hG hD (zx_PR_2 hD a4 hn.2.1) hz a4 hf.2.1 hWL hp
    · exact zx_e94 hG hD (zx_PR_1 hD a4 hn.2.1 h0 h2) hz a4 hf.2.1 hWL hp
/-- what was left when the transitions below t are done -/
def zx_ex (c : Nat → Nat → Nat) (z e t : Nat) : Nat := zn_mk (zs_n c) (fun s => z.testBit s && zn_any t (fun u => zs_TK c z e u && zc_AB (c 0) (zs_dm c u) s))
theorem zx_ex_n {z e t : Nat} (h : zs_TK c z e t = false) : zx_ex c z e (t + 1) = zx_ex c z e t := by
  apply zn_mk_cg
  intro s _
  rw [zn_any_s, h, Bool.false_and, Bool.or_false]
theorem zx_ex_t (hG : zs_G c ev) (hD : zx_D c d) {z e t : Nat} (ht : t < zs_q c) (h : zs_TK c z e t = true) : zx_ex c z e t ||| (z % 4096 &&& d 2 (zs_dm c t)) = zx_ex c z e (t + 1) := by
  have hn := zs_Gn hG
  have hd := zs_dmlt hG ht
  have e2 := zx_D2 hD (s := zs_dm c t) (by omega)
  apply zn_mk_of
  · refine Nat.or_lt_two_pow (zn_mk_lt _ _) (Nat.and_lt_two_pow _ ?_)
    rw [e2]; exact zn_mk_lt _ _
  · intro s hs
    rw [Nat.testBit_or, Nat.testBit_and, e2, zn_mk_in hs, zw_a_in z (by omega), zn_any_s, h, Bool.true_and]
    show (((zn_mk _ _).testBit s) || _) = _
    rw [zn_mk_in hs]
    cases z.testBit s <;> simp
theorem zx_actIn {post : Int32 → Prop} {z : Nat} (hz : z < 2 ^ 60) (hp : post (nI (z % 4096))) : wpX_activeIn post (f_maxStates, f_maxTransitions, nI ev, f_maxSituations, f_sealed, f_built, nI (zs_n c), nI (d 6 0), nI (zs_q c), f_stepAfter, f_stepTaken, f_stepExited, f_stepEntered, f_situation0, f_place1, f_found, zn_A (c 0), zn_A (c 1), zn_A (c 2), zn_A (c 3), zn_A (c 4), zn_A (d 0), zn_A (d 1), zn_A (d 2), zn_A (d 3), zn_A (c 5), zn_A (c 6), zn_A (c 7), zn_A (c 8), zn_A (c 9), zn_A (c 10), zn_A (d 4), zn_A (d 5), a_log, a_logLength, a_situations, a_stepsTo, a_nextPlace, a_takenAt, a_exitedAt, a_enteredAt) (lN z) := by
  show post ((lN z &&& 4095).toInt32)
  rw [zw_active hz]
  exact hp
theorem zx_csL {post : SX → Prop} (hG : zs_G c ev) (hD : zx_D c d) {z e : Nat} (hz : zs_W c z) (hp : post (f_maxStates, f_maxTransitions, nI ev, f_maxSituations, f_sealed, f_built, nI (zs_n c), nI (d 6 0), nI (zs_q c), lN (zs_sp c z e), nI (zs_tkm c z e), nI (zs_exm c z e), nI (zs_enm c z e), f_situation0, f_place1, f_found, zn_A (c 0), zn_A (c 1), zn_A (c 2), zn_A (c 3), zn_A (c 4), zn_A (d 0), zn_A (d 1), zn_A (d 2), zn_A (d 3), zn_A (c 5), zn_A (c 6), zn_A (c 7), zn_A (c 8), zn_A (c 9), zn_A (c 10), zn_A (d 4), zn_A (d 5), a_log, a_logLength, a_situations, a_stepsTo, a_nextPlace, a_takenAt, a_exitedAt, a_enteredAt)) : ∀ k t, t + k = zs_q c → wX_computeStep_36 post (lN z) (nI (z % 4096)) (k + 1) (nI t) f_maxStates f_maxTransitions (nI ev) f_maxSituations f_sealed f_built (nI (zs_n c)) (nI (d 6 0)) (nI (zs_q c)) (lN (zs_tL c z (zs_TK c z e) t).2) (nI (zs_tkm c z e)) (nI (zx_ex c z e t)) (nI (zs_tL c z (zs_TK c z e) t).1) f_situation0 f_place1 f_found (zn_A (c 0)) (zn_A (c 1)) (zn_A (c 2)) (zn_A (c 3)) (zn_A (c 4)) (zn_A (d 0)) (zn_A (d 1)) (zn_A (d 2)) (zn_A (d 3)) (zn_A (c 5)) (zn_A (c 6)) (zn_A (c 7)) (zn_A (c 8)) (zn_A (c 9)) (zn_A (c 10)) (zn_A (d 4)) (zn_A (d 5)) a_log a_logLength a_situations a_stepsTo a_nextPlace a_takenAt a_exitedAt a_enteredAt := by
  intro k
  have hn := zs_Gn hG
  induction k with
  | zero =>
    intro t ht
    have ht' : t = zs_q c := by omega
    subst ht'
    have a := zs_tL_I hG (T := zs_TK c z e) hz.1 (zs_q c) (Nat.le_refl _)
    have hl := zs_nact_lt hG (e := e) hz
    refine br_t (nI_le (by omega) (by omega)) ?_
    show wpX_replaceActive _ _ ((nI (z % 4096) &&& (nI (zs_exm c z e) ^^^ (-1))) ||| nI (zs_enm c z e))
    rw [zw_andn, zw_or]
    refine zx_rep a.2.1 (zs_n12 hG hl) ?_
    exact hp
  | succ k ih =>
    intro t ht
    have a := zs_tL_I hG (T := zs_TK c z e) hz.1 t (by omega)
    have hd := zs_dmlt hG (show t < zs_q c by omega)
    have hT : zs_tkm c z e < 2 ^ 31 := zn_mk_31 hn.2.2.1 _
    refine br_f (nI_ge (by omega) (by omega)) ?_
    refine ek_if (zw_bit hT (by omega)) (fun h => ?_) (fun h => ?_)
    · have h' : zs_TK c z e t = false := by
        rw [← h]; exact (zn_mk_in (by omega)).symm
      have := ih (t + 1) (by omega)
      rw [zs_tL_n h', zx_ex_n h'] at this
      exact nm_r (nI_1 t) this
    · have h' : zs_TK c z e t = true := by
        rw [← zn_bt h]; exact (zn_mk_in (by omega)).symm
      have ed : zn_A (d 4) (nI t).toNatClampNeg = nI (zs_dm c t) := by rw [zn_rd (d 4) (by omega), zx_D4 hD (by omega)]
      refine And.intro (vp_in_nI (by omega) (by decide)) ?_
      rw [ed]
      have e9 : nI (zx_ex c z e t) ||| (nI (z % 4096) &&& zn_A (d 2) (nI (zs_dm c t)).toNatClampNeg) = nI (zx_ex c z e (t + 1)) := by
        rw [zn_rd (d 2) (by omega), nx_and, zw_or, zx_ex_t hG hD (by omega) h']
      refine And.intro (vp_in_nI (by omega) (by decide)) (nm_r e9 ?_)
      refine zx_enT hG hD hz.1 (by omega) a.2 ?_
      have := ih (t + 1) (by omega)
      rw [zs_tL_t h'] at this
      exact nm_r (nI_1 t) this
theorem zx_cStep {post : SX → Prop} (hG : zs_G c ev) (hD : zx_D c d) {z e : Nat} (hz : zs_W c z) (he : e < 2 ^ 31) (hp : post (f_maxStates, f_maxTransitions, nI ev, f_maxSituations, f_sealed, f_built, nI (zs_n c), nI (d 6 0), nI (zs_q c), lN (zs_sp c z e), nI (zs_tkm c z e), nI (zs_exm c z e), nI (zs_enm c z e), f_situation0, f_place1, f_found, zn_A (c 0), zn_A (c 1), zn_A (c 2), zn_A (c 3), zn_A (c 4), zn_A (d 0), zn_A (d 1), zn_A (d 2), zn_A (d 3), zn_A (c 5), zn_A (c 6), zn_A (c 7), zn_A (c 8), zn_A (c 9), zn_A (c 10), zn_A (d 4), zn_A (d 5), a_log, a_logLength, a_situations, a_stepsTo, a_nextPlace, a_takenAt, a_exitedAt, a_enteredAt)) : wpX_computeStep post (f_maxStates, f_maxTransitions, nI ev, f_maxSituations, f_sealed, f_built, nI (zs_n c), nI (d 6 0), nI (zs_q c), f_stepAfter, f_stepTaken, f_stepExited, f_stepEntered, f_situation0, f_place1, f_found, zn_A (c 0), zn_A (c 1), zn_A (c 2), zn_A (c 3), zn_A (c 4), zn_A (d 0), zn_A (d 1), zn_A (d 2), zn_A (d 3), zn_A (c 5), zn_A (c 6), zn_A (c 7), zn_A (c 8), zn_A (c 9), zn_A (c 10), zn_A (d 4), zn_A (d 5), a_log, a_logLength, a_situations, a_stepsTo, a_nextPlace, a_takenAt, a_exitedAt, a_enteredAt) (lN z) (nI e) := by
  unfold wpX_computeStep
  refine zx_actIn hz.1.1 ?_
  refine zx_chT hG hD he ?_
  refine ⟨zs_q c + 1, ?_⟩
  have h := zx_csL hG hD hz hp (zs_q c) 0 (Nat.zero_add _)
  have e0 : zx_ex c z e 0 = 0 := zn_mk_0 (fun s _ => Bool.and_false _)
  rw [e0] at h
  exact h
end ZXC
end
section
section ZXL
/-! logs -/
def zl_ok (len cont : Nat → Int32) (m : Nat) (l : List Nat) : Prop := len m = nI l.length ∧ l.length ≤ 40 ∧ ∀ i, i < l.length → cont (m * 40 + i) = nI (l.getD i 0)
def zl_fr (m : Nat) (lg ll lg' ll' : Nat → Int32) : Prop := (∀ j, j < m * 40 ∨ m * 40 + 40 ≤ j → lg' j = lg j) ∧ (∀ j, j ≠ m → ll' j = ll j)
def zl_ap (l : List Nat) (code : Nat) : List Nat := if code = 0 ∨ 40 ≤ l.length then l else l ++ [code]
def zl_up (f : Nat → Bool) (g : Nat → Nat) : Nat → Nat → List Nat → List Nat
  | 0, _, l => l
  | k + 1, i, l => zl_up f g k (i + 1) (if f i = true then zl_ap l (g i) else l)
def zl_dn (f : Nat → Bool) (g : Nat → Nat) : Nat → List Nat → List Nat
  | 0, l => l
  | k + 1, l => zl_dn f g k (if f k = true then zl_ap l (g k) else l)
theorem zl_up_n {f : Nat → Bool} {g : Nat → Nat} {k i : Nat} {l : List Nat} (h : f i = false) : zl_up f g (k + 1) i l = zl_up f g k (i + 1) l := by
  show zl_up f g k (i + 1) (if f i = true then zl_ap l (g i) else l) = _
  rw [h, if_neg (by decide)]
theorem zl_up_t {f : Nat → Bool} {g : Nat → Nat} {k i : Nat} {l : List Nat} (h : f i = true) : zl_up f g (k + 1) i l = zl_up f g k (i + 1) (zl_ap l (g i)) := by
  show zl_up f g k (i + 1) (if f i = true then zl_ap l (g i) else l) = _
  rw [if_pos h]
theorem zl_dn_n {f : Nat → Bool} {g : Nat → Nat} {k : Nat} {l : List Nat} (h : f k = false) : zl_dn f g (k + 1) l = zl_dn f g k l := by
  show zl_dn f g k (if f k = true then zl_ap l (g k) else l) = _
  rw [h, if_neg (by decide)]
theorem zl_dn_t {f : Nat → Bool} {g : Nat → Nat} {k : Nat} {l : List Nat} (h : f k = true) : zl_dn f g (k + 1) l = zl_dn f g k (zl_ap l (g k)) := by
  show zl_dn f g k (if f k = true then zl_ap l (g k) else l) = _
  rw [if_pos h]
theorem zl_up_0 {f : Nat → Bool} {g : Nat → Nat} : ∀ k i l, (∀ x, i ≤ x → x < i + k → f x = false) → zl_up f g k i l = l := by
  intro k
  induction k with
  | zero => intro i l _; rfl
  | succ k ih => intro i l h; rw [zl_up_n (h i (by omega) (by omega)), ih (i + 1) l (fun x a b => h x (by omega) (by omega))]
theorem zl_dn_0 {f : Nat → Bool} {g : Nat → Nat} : ∀ k l, (∀ x, x < k → f x = false) → zl_dn f g k l = l := by
  intro k
  induction k with
  | zero => intro l _; rfl
  | succ k ih => intro l h; rw [zl_dn_n (h k (by omega)), ih l (fun x a => h x (by omega))]
/-- what a step writes -/
def zl_LOG (c : Nat → Nat → Nat) (ex tk en : Nat) : List Nat := zl_up (Nat.testBit en) (c 3) (zs_n c) 0 (zl_up (Nat.testBit tk) (c 10) (zs_q c) 0 (zl_dn (Nat.testBit ex) (c 4) (zs_n c) []))
theorem zl_LOG_0 (c : Nat → Nat → Nat) : zl_LOG c 0 0 0 = [] := by
  unfold zl_LOG
  rw [zl_dn_0 _ _ (fun x _ => Nat.zero_testBit x), zl_up_0 _ _ _ (fun x _ _ => Nat.zero_testBit x), zl_up_0 _ _ _ (fun x _ _ => Nat.zero_testBit x)]
theorem zl_fr_rf {m : Nat} {lg ll : Nat → Int32} : zl_fr m lg ll lg ll := ⟨fun _ _ => rfl, fun _ _ => rfl⟩
theorem zl_fr_tr {m : Nat} {lg ll lg' ll' lg'' ll'' : Nat → Int32} (h : zl_fr m lg ll lg' ll') (h' : zl_fr m lg' ll' lg'' ll'') : zl_fr m lg ll lg'' ll'' :=
  ⟨fun j hj => (h'.1 j hj).trans (h.1 j hj), fun j hj => (h'.2 j hj).trans (h.2 j hj)⟩
theorem zl_ok_fr {m m' : Nat} {lg ll lg' ll' : Nat → Int32} {l : List Nat} (h : zl_fr m lg ll lg' ll') (hm : m' ≠ m) (ho : zl_ok ll lg m' l) : zl_ok ll' lg' m' l := by
  refine ⟨(h.2 m' hm).trans ho.1, ho.2.1, fun i hi => ?_⟩
  have := ho.2.1
  rw [h.1 (m' * 40 + i) (by omega)]
  exact ho.2.2 i hi
theorem zl_ok_0 {m : Nat} {lg ll : Nat → Int32} : zl_ok (upd ll m 0) lg m [] := ⟨pk_us, by decide, fun i hi => absurd hi (Nat.not_lt_zero i)⟩
theorem zl_fr_0 {m : Nat} {lg ll : Nat → Int32} {v : Int32} : zl_fr m lg ll lg (upd ll m v) := ⟨fun _ _ => rfl, fun _ hj => pk_un hj⟩
theorem zl_ap_n {l : List Nat} {code : Nat} (h : code = 0 ∨ 40 ≤ l.length) : zl_ap l code = l := if_pos h
theorem zl_ap_t {l : List Nat} {code : Nat} (h : ¬ code = 0) (h2 : l.length < 40) : zl_ap l code = l ++ [code] := if_neg (by omega)
theorem zl_put {m code : Nat} {lg ll : Nat → Int32} {l : List Nat} (ho : zl_ok ll lg m l) (hl : l.length < 40) : zl_ok (upd ll m (nI (l.length + 1))) (upd lg (m * 40 + l.length) (nI code)) m (l ++ [code]) := by
  refine ⟨?_, ?_, fun i hi => ?_⟩
  · rw [pk_us, List.length_append]; rfl
  · rw [List.length_append]; exact hl
  · rw [List.length_append] at hi
    have hi2 : i < l.length + 1 := hi
    by_cases e : i = l.length
    · subst e
      rw [pk_us]
      simp
    · rw [pk_un (by omega), ho.2.2 i (by omega)]
      congr 1
      rw [List.getD_eq_getElem?_getD, List.getD_eq_getElem?_getD, List.getElem?_append_left (by omega)]
theorem zl_put_fr {m k : Nat} {lg ll : Nat → Int32} {v w : Int32} (hk : k < 40) : zl_fr m lg ll (upd lg (m * 40 + k) v) (upd ll m w) :=
  ⟨fun _ hj => pk_un (by omega), fun _ hj => pk_un hj⟩
variable {c d : Nat → Nat → Nat} {ev : Nat}
variable {f_maxStates f_maxTransitions f_maxSituations f_sealed f_built f_stepTaken f_stepExited f_stepEntered f_place1 f_found : Int32} {f_stepAfter f_situation0 : Int64} {a_log a_logLength a_stepsTo a_nextPlace a_takenAt a_exitedAt a_enteredAt : Nat → Int32} {a_situations : Nat → Int64}
theorem zx_ix {m k : Nat} (x : Int32) (hx : x = nI k) : nI m * 40 + x = nI (m * 40 + k) := by
  subst hx
  show nI m * nI 40 + nI k = _
  rw [pk_mul, nI_add]
theorem zx_app {post : SX → Prop} {m code : Nat} {l : List Nat} {lg ll : Nat → Int32} (hm : m < 2) (hc : code < 2 ^ 31) (ho : zl_ok ll lg m l) (K : ∀ lg' ll' : Nat → Int32, zl_ok ll' lg' m (zl_ap l code) → zl_fr m lg ll lg' ll' → post (f_maxStates, f_maxTransitions, nI ev, f_maxSituations, f_sealed, f_built, nI (zs_n c), nI (d 6 0), nI (zs_q c), f_stepAfter, f_stepTaken, f_stepExited, f_stepEntered, f_situation0, f_place1, f_found, zn_A (c 0), zn_A (c 1), zn_A (c 2), zn_A (c 3), zn_A (c 4), zn_A (d 0), zn_A (d 1), zn_A (d 2), zn_A (d 3), zn_A (c 5), zn_A (c 6), zn_A (c 7), zn_A (c 8), zn_A (c 9), zn_A (c 10), zn_A (d 4), zn_A (d 5), lg', ll', a_situations, a_stepsTo, a_nextPlace, a_takenAt, a_exitedAt, a_enteredAt)) : wpX_append post (f_maxStates, f_maxTransitions, nI ev, f_maxSituations, f_sealed, f_built, nI (zs_n c), nI (d 6 0), nI (zs_q c), f_stepAfter, f_stepTaken, f_stepExited, f_stepEntered, f_situation0, f_place1, f_found, zn_A (c 0), zn_A (c 1), zn_A (c 2), zn_A (c 3), zn_A (c 4), zn_A (d 0), zn_A (d 1), zn_A (d 2), zn_A (d 3), zn_A (c 5), zn_A (c 6), zn_A (c 7), zn_A (c 8), zn_A (c 9), zn_A (c 10), zn_A (d 4), zn_A (d 5), lg, ll, a_situations, a_stepsTo, a_nextPlace, a_takenAt, a_exitedAt, a_enteredAt) (nI m) (nI code) := by
  have vin : vp_in (nI m) 2 := vp_in_nI hm (by decide)
  have el : ll (nI m).toNatClampNeg = nI l.length := by rw [nI_clamp (by omega)]; exact ho.1
  have h40 := ho.2.1
  refine And.intro vin (nm_r el ?_)
  refine ek_if (zn_e0 hc) (fun h => ?_) (fun h => ?_)
  · refine K lg ll ?_ zl_fr_rf
    rw [zl_ap_n (Or.inl h)]; exact ho
  · refine pk_le 40 l.length (fun h2 => ?_) (fun h2 => ?_) rfl rfl
    · refine K lg ll ?_ zl_fr_rf
      rw [zl_ap_n (Or.inr h2)]; exact ho
    · rw [zx_ix (m := m) _ rfl, nI_clamp (show m < 2 ^ 31 by omega), nI_clamp (show m * 40 + l.length < 2 ^ 31 by omega), nI_1]
      refine And.intro (vp_in_nI (by omega) (by decide)) (nm_e (And.intro vin (nm_e ?_)))
      refine K _ _ ?_ (zl_put_fr h2)
      rw [zl_ap_t h h2]
      exact zl_put ho h2
theorem zx_wl89 {post : SX → Prop} {m en : Nat} (hG : zs_G c ev) (hm : m < 2) (he : en < 2 ^ 31) : ∀ k i l (lg ll : Nat → Int32), i + k = zs_n c → zl_ok ll lg m l → (∀ lg' ll' : Nat → Int32, zl_ok ll' lg' m (zl_up (Nat.testBit en) (c 3) k i l) → zl_fr m lg ll lg' ll' → post (f_maxStates, f_maxTransitions, nI ev, f_maxSituations, f_sealed, f_built, nI (zs_n c), nI (d 6 0), nI (zs_q c), f_stepAfter, f_stepTaken, f_stepExited, f_stepEntered, f_situation0, f_place1, f_found, zn_A (c 0), zn_A (c 1), zn_A (c 2), zn_A (c 3), zn_A (c 4), zn_A (d 0), zn_A (d 1), zn_A (d 2), zn_A (d 3), zn_A (c 5), zn_A (c 6), zn_A (c 7), zn_A (c 8), zn_A (c 9), zn_A (c 10), zn_A (d 4), zn_A (d 5), lg', ll', a_situations, a_stepsTo, a_nextPlace, a_takenAt, a_exitedAt, a_enteredAt)) → wX_writeLog_89 post (nI m) (nI en) (k + 1) (nI i) f_maxStates f_maxTransitions (nI ev) f_maxSituations f_sealed f_built (nI (zs_n c)) (nI (d 6 0)) (nI (zs_q c)) f_stepAfter f_stepTaken f_stepExited f_stepEntered f_situation0 f_place1 f_found (zn_A (c 0)) (zn_A (c 1)) (zn_A (c 2)) (zn_A (c 3)) (zn_A (c 4)) (zn_A (d 0)) (zn_A (d 1)) (zn_A (d 2)) (zn_A (d 3)) (zn_A (c 5)) (zn_A (c 6)) (zn_A (c 7)) (zn_A (c 8)) (zn_A (c 9)) (zn_A (c 10)) (zn_A (d 4)) (zn_A (d 5)) lg ll a_situations a_stepsTo a_nextPlace a_takenAt a_exitedAt a_enteredAt := by
  intro k
  have hn := zs_Gn hG
  induction k with
  | zero =>
    intro i l lg ll hi ho K
    exact br_t (nI_le (by omega) (by omega)) (K lg ll ho zl_fr_rf)
  | succ k ih =>
    intro i l lg ll hi ho K
    refine br_f (nI_ge (by omega) (by omega)) ?_
    refine ek_if (zw_bit he (by omega)) (fun h => ?_) (fun h => ?_)
    · rw [zl_up_n h] at K
      exact nm_r (nI_1 i) (ih (i + 1) l lg ll (by omega) ho K)
    · rw [zl_up_t (zn_bt h)] at K
      refine And.intro (vp_in_nI (by omega) (by decide)) ?_
      rw [zn_rd (c 3) (by omega)]
      refine zx_app hm (zs_Gb hG 3 i) ho (fun lg' ll' h1 h2 => ?_)
      exact nm_r (nI_1 i) (ih (i + 1) _ lg' ll' (by omega) h1 (fun a b h3 h4 => K a b h3 (zl_fr_tr h2 h4)))
theorem zx_wl50 {post : SX → Prop} {m tk en : Nat} (hG : zs_G c ev) (hm : m < 2) (ht : tk < 2 ^ 31) (he : en < 2 ^ 31) : ∀ k i l (lg ll : Nat → Int32), i + k = zs_q c → zl_ok ll lg m l → (∀ lg' ll' : Nat → Int32, zl_ok ll' lg' m (zl_up (Nat.testBit en) (c 3) (zs_n c) 0 (zl_up (Nat.testBit tk) (c 10) k i l)) → zl_fr m lg ll lg' ll' → post (f_maxStates, f_maxTransitions, nI ev, f_maxSituations, f_sealed, f_built, nI (zs_n c), nI (d 6 0), nI (zs_q c), f_stepAfter, f_stepTaken, f_stepExited, f_stepEntered, f_situation0, f_place1, f_found, zn_A (c 0), zn_A (c 1), zn_A (c 2), zn_A (c 3), zn_A (c 4), zn_A (d 0), zn_A (d 1), zn_A (d 2), zn_A (d 3), zn_A (c 5), zn_A (c 6), zn_A (c 7), zn_A (c 8), zn_A (c 9), zn_A (c 10), zn_A (d 4), zn_A (d 5), lg', ll', a_situations, a_stepsTo, a_nextPlace, a_takenAt, a_exitedAt, a_enteredAt)) → wX_writeLog_50 post (nI m) (nI tk) (nI en) (k + 1) (nI i) f_maxStates f_maxTransitions (nI ev) f_maxSituations f_sealed f_built (nI (zs_n c)) (nI (d 6 0)) (nI (zs_q c)) f_stepAfter f_stepTaken f_stepExited f_stepEntered f_situation0 f_place1 f_found (zn_A (c 0)) (zn_A (c 1)) (zn_A (c 2)) (zn_A (c 3)) (zn_A (c 4)) (zn_A (d 0)) (zn_A (d 1)) (zn_A (d 2)) (zn_A (d 3)) (zn_A (c 5)) (zn_A (c 6)) (zn_A (c 7)) (zn_A (c 8)) (zn_A (c 9)) (zn_A (c 10)) (zn_A (d 4)) (zn_A (d 5)) lg ll a_situations a_stepsTo a_nextPlace a_takenAt a_exitedAt a_enteredAt := by
  intro k
  have hn := zs_Gn hG
  induction k with
  | zero =>
    intro i l lg ll hi ho K
    exact br_t (nI_le (by omega) (by omega)) ⟨zs_n c + 1, zx_wl89 hG hm he (zs_n c) 0 l lg ll (Nat.zero_add _) ho K⟩
  | succ k ih =>
    intro i l lg ll hi ho K
    refine br_f (nI_ge (by omega) (by omega)) ?_
    refine ek_if (zw_bit ht (by omega)) (fun h => ?_) (fun h => ?_)
    · rw [zl_up_n h] at K
      exact nm_r (nI_1 i) (ih (i + 1) l lg ll (by omega) ho K)
    · rw [zl_up_t (zn_bt h)] at K
      refine And.intro (vp_in_nI (by omega) (by decide)) ?_
      rw [zn_rd (c 10) (by omega)]
      refine zx_app hm (zs_Gb hG 10 i) ho (fun lg' ll' h1 h2 => ?_)
      exact nm_r (nI_1 i) (ih (i + 1) _ lg' ll' (by omega) h1 (fun a b h3 h4 => K a b h3 (zl_fr_tr h2 h4)))
theorem zx_wl15 {post : SX → Prop} {m ex tk en : Nat} (hG : zs_G c ev) (hm : m < 2) (hx : ex < 2 ^ 31) (ht : tk < 2 ^ 31) (he : en < 2 ^ 31) : ∀ k l (lg ll : Nat → Int32), k ≤ zs_n c → zl_ok ll lg m l → (∀ lg' ll' : Nat → Int32, zl_ok ll' lg' m (zl_up (Nat.testBit en) (c 3) (zs_n c) 0 (zl_up (Nat.testBit tk) (c 10) (zs_q c) 0 (zl_dn (Nat.testBit ex) (c 4) k l))) → zl_fr m lg ll lg' ll' → post (f_maxStates, f_maxTransitions, nI ev, f_maxSituations, f_sealed, f_built, nI (zs_n c), nI (d 6 0), nI (zs_q c), f_stepAfter, f_stepTaken, f_stepExited, f_stepEntered, f_situation0, f_place1, f_found, zn_A (c 0), zn_A (c 1), zn_A (c 2), zn_A (c 3), zn_A (c 4), zn_A (d 0), zn_A (d 1), zn_A (d 2), zn_A (d 3), zn_A (c 5), zn_A (c 6), zn_A (c 7), zn_A (c 8), zn_A (c 9), zn_A (c 10), zn_A (d 4), zn_A (d 5), lg', ll', a_situations, a_stepsTo, a_nextPlace, a_takenAt, a_exitedAt, a_enteredAt)) → wX_writeLog_15 post (nI m) (nI ex) (nI tk) (nI en) (k + 1) (nI k + (-1)) f_maxStates f_maxTransitions (nI ev) f_maxSituations f_sealed f_built (nI (zs_n c)) (nI (d 6 0)) (nI (zs_q c)) f_stepAfter f_stepTaken f_stepExited f_stepEntered f_situation0 f_place1 f_found (zn_A (c 0)) (zn_A (c 1)) (zn_A (c 2)) (zn_A (c 3)) (zn_A (c 4)) (zn_A (d 0)) (zn_A (d 1)) (zn_A (d 2)) (zn_A (d 3)) (zn_A (c 5)) (zn_A (c 6)) (zn_A (c 7)) (zn_A (c 8)) (zn_A (c 9)) (zn_A (c 10)) (zn_A (d 4)) (zn_A (d 5)) lg ll a_situations a_stepsTo a_nextPlace a_takenAt a_exitedAt a_enteredAt := by
  intro k
  have hn := zs_Gn hG
  induction k with
  | zero =>
    intro l lg ll hi ho K
    exact br_t (by decide) ⟨zs_q c + 1, zx_wl50 hG hm ht he (zs_q c) 0 l lg ll (Nat.zero_add _) ho K⟩
  | succ k ih =>
    intro l lg ll hi ho K
    rw [pk_m1]
    refine br_f (nI_pos (by omega)) ?_
    refine ek_if (zw_bit hx (by omega)) (fun h => ?_) (fun h => ?_)
    · rw [zl_dn_n h] at K
      exact nm_e (ih l lg ll (by omega) ho K)
    · rw [zl_dn_t (zn_bt h)] at K
      refine And.intro (vp_in_nI (by omega) (by decide)) ?_
      rw [zn_rd (c 4) (by omega)]
      refine zx_app hm (zs_Gb hG 4 k) ho (fun lg' ll' h1 h2 => ?_)
      exact nm_e (ih _ lg' ll' (by omega) h1 (fun a b h3 h4 => K a b h3 (zl_fr_tr h2 h4)))
theorem zx_wlog {post : SX → Prop} {m ex tk en : Nat} {lg ll : Nat → Int32} (hG : zs_G c ev) (hm : m < 2) (hx : ex < 2 ^ 31) (ht : tk < 2 ^ 31) (he : en < 2 ^ 31) (K : ∀ lg' ll' : Nat → Int32, zl_ok ll' lg' m (zl_LOG c ex tk en) → zl_fr m lg ll lg' ll' → post (f_maxStates, f_maxTransitions, nI ev, f_maxSituations, f_sealed, f_built, nI (zs_n c), nI (d 6 0), nI (zs_q c), f_stepAfter, f_stepTaken, f_stepExited, f_stepEntered, f_situation0, f_place1, f_found, zn_A (c 0), zn_A (c 1), zn_A (c 2), zn_A (c 3), zn_A (c 4), zn_A (d 0), zn_A (d 1), zn_A (d 2), zn_A (d 3), zn_A (c 5), zn_A (c 6), zn_A (c 7), zn_A (c 8), zn_A (c 9), zn_A (c 10), zn_A (d 4), zn_A (d 5), lg', ll', a_situations, a_stepsTo, a_nextPlace, a_takenAt, a_exitedAt, a_enteredAt)) : wpX_writeLog post (f_maxStates, f_maxTransitions, nI ev, f_maxSituations, f_sealed, f_built, nI (zs_n c), nI (d 6 0), nI (zs_q c), f_stepAfter, f_stepTaken, f_stepExited, f_stepEntered, f_situation0, f_place1, f_found, zn_A (c 0), zn_A (c 1), zn_A (c 2), zn_A (c 3), zn_A (c 4), zn_A (d 0), zn_A (d 1), zn_A (d 2), zn_A (d 3), zn_A (c 5), zn_A (c 6), zn_A (c 7), zn_A (c 8), zn_A (c 9), zn_A (c 10), zn_A (d 4), zn_A (d 5), lg, ll, a_situations, a_stepsTo, a_nextPlace, a_takenAt, a_exitedAt, a_enteredAt) (nI m) (nI ex) (nI tk) (nI en) := by
  have hcl : (nI m).toNatClampNeg = m := nI_clamp (by omega)
  refine And.intro (vp_in_nI hm (by decide)) ?_
  rw [hcl]
  refine nm_e (nm_r (Int32.sub_eq_add_neg _ _) ⟨zs_n c + 1, ?_⟩)
  exact zx_wl15 hG hm hx ht he (zs_n c) [] lg _ (Nat.le_refl _) zl_ok_0 (fun a b h1 h2 => K a b h1 (zl_fr_tr zl_fr_0 h2))
theorem zx_cb {post : Int32 → Prop} {m : Nat} (hm : m < 2 ^ 31) : ∀ k i r, i + k = 16 → r = zn_c i (Nat.testBit m) → post (nI (zn_c 16 (Nat.testBit m))) → wX_countBits_4 post (nI m) f_maxStates f_maxTransitions (nI ev) f_maxSituations f_sealed f_built (nI (zs_n c)) (nI (d 6 0)) (nI (zs_q c)) f_stepAfter f_stepTaken f_stepExited f_stepEntered f_situation0 f_place1 f_found (zn_A (c 0)) (zn_A (c 1)) (zn_A (c 2)) (zn_A (c 3)) (zn_A (c 4)) (zn_A (d 0)) (zn_A (d 1)) (zn_A (d 2)) (zn_A (d 3)) (zn_A (c 5)) (zn_A (c 6)) (zn_A (c 7)) (zn_A (c 8)) (zn_A (c 9)) (zn_A (c 10)) (zn_A (d 4)) (zn_A (d 5)) a_log a_logLength a_situations a_stepsTo a_nextPlace a_takenAt a_exitedAt a_enteredAt (k + 1) (nI r) (nI i) := by
  intro k
  induction k with
  | zero =>
    intro i r hi hr hp
    have hi' : i = 16 := by omega
    subst hi'
    rw [← hr] at hp
    exact br_t (by decide) hp
  | succ k ih =>
    intro i r hi hr hp
    refine br_f (nI_ge (b := 16) (by omega) (by decide)) ?_
    rw [zw_shr hm (by omega), nI_add, nI_1]
    exact nm_e (nm_e (ih (i + 1) _ (by omega) (by rw [hr]; rfl) hp))
theorem zx_cnt {post : Int32 → Prop} {m : Nat} (hm : m < 2 ^ 31) (hp : post (nI (zn_c 16 (Nat.testBit m)))) : wpX_countBits post (f_maxStates, f_maxTransitions, nI ev, f_maxSituations, f_sealed, f_built, nI (zs_n c), nI (d 6 0), nI (zs_q c), f_stepAfter, f_stepTaken, f_stepExited, f_stepEntered, f_situation0, f_place1, f_found, zn_A (c 0), zn_A (c 1), zn_A (c 2), zn_A (c 3), zn_A (c 4), zn_A (d 0), zn_A (d 1), zn_A (d 2), zn_A (d 3), zn_A (c 5), zn_A (c 6), zn_A (c 7), zn_A (c 8), zn_A (c 9), zn_A (c 10), zn_A (d 4), zn_A (d 5), a_log, a_logLength, a_situations, a_stepsTo, a_nextPlace, a_takenAt, a_exitedAt, a_enteredAt) (nI m) :=
  ⟨17, zx_cb hm 16 0 0 rfl rfl hp⟩
end ZXL
end
section
section ZYT
/-! the reference's walks: the tree -/
variable {c : Nat → Nat → Nat} {ev : Nat}
variable {f_maxStates f_maxTransitions f_maxSituations f_phase f_found : Int32} {a_active a_last a_logs a_logSize a_enabled a_taken a_exited a_by a_before a_here a_next : Nat → Int32}
theorem zy_ab5 {post : Int32 → Prop} (hG : zs_G c ev) {a : Nat} (ha : a < 2 ^ 31) : ∀ k i x, i + k = 12 → x < zs_n c → post (zn_b (zc_abF (c 0) a k x)) → wY_above_5 post (nI a) f_maxStates f_maxTransitions (nI ev) f_maxSituations f_phase (nI (zs_n c)) (nI (zs_q c)) f_found (zn_A (c 0)) (zn_A (c 1)) (zn_A (c 2)) (zn_A (c 3)) (zn_A (c 4)) (zn_A (c 5)) (zn_A (c 6)) (zn_A (c 7)) (zn_A (c 8)) (zn_A (c 9)) (zn_A (c 10)) a_active a_last a_logs a_logSize a_enabled a_taken a_exited a_by a_before a_here a_next (k + 1) (nI x) (nI i) := by
  intro k
  have hn := zs_Gn hG
  induction k with
  | zero =>
    intro i x hi hx hp
    have hi' : i = 12 := by omega
    subst hi'
    exact br_t (by decide) hp
  | succ k ih =>
    intro i x hi hx hp
    refine br_f (nI_ge (b := 12) (by omega) (by decide)) ?_
    refine ek_if (zn_e0 (by omega)) (fun h => ?_) (fun h => ?_)
    · rw [h, zc_abF_0] at hp
      exact hp
    · rw [zc_abF_s _ _ _ h] at hp
      refine And.intro (vp_in_nI (by omega) (by decide)) (nm_r (zn_rd (c 0) (by omega)) ?_)
      refine ek_if (nI_eq (zs_Gb hG 0 x) ha) (fun h2 => ?_) (fun h2 => ?_)
      · rw [decide_eq_true h2, Bool.true_or] at hp
        exact hp
      · rw [decide_eq_false h2, Bool.false_or] at hp
        have := (zs_GP hG).2 x (by omega) hx
        exact nm_r (nI_1 i) (ih (i + 1) (c 0 x) (by omega) (by omega) hp)
theorem zy_ab {post : Int32 → Prop} (hG : zs_G c ev) {a s : Nat} (ha : a < 2 ^ 31) (hs : s < zs_n c) (hp : post (zn_b (zc_AB (c 0) a s))) : wpY_above post (f_maxStates, f_maxTransitions, nI ev, f_maxSituations, f_phase, nI (zs_n c), nI (zs_q c), f_found, zn_A (c 0), zn_A (c 1), zn_A (c 2), zn_A (c 3), zn_A (c 4), zn_A (c 5), zn_A (c 6), zn_A (c 7), zn_A (c 8), zn_A (c 9), zn_A (c 10), a_active, a_last, a_logs, a_logSize, a_enabled, a_taken, a_exited, a_by, a_before, a_here, a_next) (nI a) (nI s) :=
  ⟨13, zy_ab5 hG ha 12 0 s rfl hs hp⟩
theorem zy_dp4 {post : Int32 → Prop} (hG : zs_G c ev) {s : Nat} (hs : s < zs_n c) (hp : post (nI (zc_DP (c 0) s))) : ∀ k i, i + k = zs_n c → wY_depth_4 post (nI s) f_maxStates f_maxTransitions (nI ev) f_maxSituations f_phase (nI (zs_n c)) (nI (zs_q c)) f_found (zn_A (c 0)) (zn_A (c 1)) (zn_A (c 2)) (zn_A (c 3)) (zn_A (c 4)) (zn_A (c 5)) (zn_A (c 6)) (zn_A (c 7)) (zn_A (c 8)) (zn_A (c 9)) (zn_A (c 10)) a_active a_last a_logs a_logSize a_enabled a_taken a_exited a_by a_before a_here a_next (k + 1) (nI (zn_c i (fun a => zc_AB (c 0) a s))) (nI i) := by
  intro k
  have hn := zs_Gn hG
  induction k with
  | zero =>
    intro i hi
    have hi' : i = zs_n c := by omega
    subst hi'
    rw [← zc_DP_cnt (zs_GP hG) s hs] at hp
    exact br_t (nI_le (by omega) (by omega)) hp
  | succ k ih =>
    intro i hi
    have h := ih (i + 1) (by omega)
    rw [zn_c_s] at h
    refine br_f (nI_ge (by omega) (by omega)) ?_
    refine zy_ab hG (by omega) hs ?_
    refine ek_if zn_b0 (fun h2 => ?_) (fun h2 => ?_)
    · rw [h2] at h
      exact nm_r (nI_1 i) h
    · rw [zn_bt h2] at h
      exact nm_r (nI_1 _) (nm_r (nI_1 i) h)
theorem zy_dp {post : Int32 → Prop} (hG : zs_G c ev) {s : Nat} (hs : s < zs_n c) (hp : post (nI (zc_DP (c 0) s))) : wpY_depth post (f_maxStates, f_maxTransitions, nI ev, f_maxSituations, f_phase, nI (zs_n c), nI (zs_q c), f_found, zn_A (c 0), zn_A (c 1), zn_A (c 2), zn_A (c 3), zn_A (c 4), zn_A (c 5), zn_A (c 6), zn_A (c 7), zn_A (c 8), zn_A (c 9), zn_A (c 10), a_active, a_last, a_logs, a_logSize, a_enabled, a_taken, a_exited, a_by, a_before, a_here, a_next) (nI s) :=
  ⟨zs_n c + 1, zy_dp4 hG hs hp (zs_n c) 0 (Nat.zero_add _)⟩
theorem zy_ct2 {post : Int32 → Prop} (hG : zs_G c ev) {s t : Nat} (hs : s < 2 ^ 31) (ht : t < zs_n c) : ∀ k i, i + k = zs_n c → 0 < i → post (nI (zn_fi (zc_cp (c 0) s t) 0 k i)) → wY_childToward_2 post (nI s) (nI t) f_maxStates f_maxTransitions (nI ev) f_maxSituations f_phase (nI (zs_n c)) (nI (zs_q c)) f_found (zn_A (c 0)) (zn_A (c 1)) (zn_A (c 2)) (zn_A (c 3)) (zn_A (c 4)) (zn_A (c 5)) (zn_A (c 6)) (zn_A (c 7)) (zn_A (c 8)) (zn_A (c 9)) (zn_A (c 10)) a_active a_last a_logs a_logSize a_enabled a_taken a_exited a_by a_before a_here a_next (k + 1) (nI i) := by
  intro k
  have hn := zs_Gn hG
  induction k with
  | zero =>
    intro i hi h0 hp
    exact br_t (nI_le (by omega) (by omega)) hp
  | succ k ih =>
    intro i hi h0 hp
    have hno : zc_cp (c 0) s t i = false → wY_childToward_2 post (nI s) (nI t) f_maxStates f_maxTransitions (nI ev) f_maxSituations f_phase (nI (zs_n c)) (nI (zs_q c)) f_found (zn_A (c 0)) (zn_A (c 1)) (zn_A (c 2)) (zn_A (c 3)) (zn_A (c 4)) (zn_A (c 5)) (zn_A (c 6)) (zn_A (c 7)) (zn_A (c 8)) (zn_A (c 9)) (zn_A (c 10)) a_active a_last a_logs a_logSize a_enabled a_taken a_exited a_by a_before a_here a_next (k + 1) (nI (i + 1)) := by
      intro h
      rw [zn_fi_n h] at hp
      exact ih (i + 1) (by omega) (by omega) hp
    have hyes : zc_cp (c 0) s t i = true → post (nI i) := by
      intro h
      rw [zn_fi_t h] at hp
      exact hp
    refine br_f (nI_ge (by omega) (by omega)) ?_
    refine And.intro (vp_in_nI (by omega) (by decide)) ?_
    refine ek_if (zn_req (by omega) (zs_Gb hG 0 i) hs) (fun h1 => ?_) (fun h1 => ?_)
    · refine ek_if (nI_eq (by omega) (by omega)) (fun h2 => ?_) (fun h2 => ?_)
      · exact hyes (zc_cp_t.mpr ⟨h0, h1, Or.inl h2⟩)
      · refine zy_ab hG (by omega) ht ?_
        refine ek_if zn_b0 (fun h3 => ?_) (fun h3 => ?_)
        · refine nm_r (nI_1 i) (hno ?_)
          unfold zc_cp
          rw [h3, decide_eq_false h2]; simp
        · exact hyes (zc_cp_t.mpr ⟨h0, h1, Or.inr (zn_bt h3)⟩)
    · refine nm_r (nI_1 i) (hno ?_)
      unfold zc_cp
      rw [decide_eq_false h1]; simp
theorem zy_ct {post : Int32 → Prop} (hG : zs_G c ev) {s t : Nat} (hs : s < 2 ^ 31) (ht : t < zs_n c) (hp : post (nI (zc_CT (c 0) (zs_n c) s t))) : wpY_childToward post (f_maxStates, f_maxTransitions, nI ev, f_maxSituations, f_phase, nI (zs_n c), nI (zs_q c), f_found, zn_A (c 0), zn_A (c 1), zn_A (c 2), zn_A (c 3), zn_A (c 4), zn_A (c 5), zn_A (c 6), zn_A (c 7), zn_A (c 8), zn_A (c 9), zn_A (c 10), a_active, a_last, a_logs, a_logSize, a_enabled, a_taken, a_exited, a_by, a_before, a_here, a_next) (nI s) (nI t) := by
  have hn := zs_Gn hG
  refine ⟨(zs_n c - 1) + 1, ?_⟩
  refine zy_ct2 hG hs ht (zs_n c - 1) 1 (by omega) (by omega) ?_
  have e : zc_CT (c 0) (zs_n c) s t = zn_fi (zc_cp (c 0) s t) 0 (zs_n c - 1) 1 := by
    show zn_fi _ _ _ _ = _
    obtain ⟨k, hk⟩ : ∃ k, zs_n c = k + 1 := ⟨zs_n c - 1, by omega⟩
    rw [hk, zn_fi_n (by unfold zc_cp; simp)]
    rfl
  rw [e] at hp
  exact hp
theorem zy_d63 {post : Int32 → Prop} {J : Int32 → Int32 → Prop} {x1 x2 : Int32} {i : Nat} (hp : J x2 (nI (i + 1))) : wY_domain_63 post J x1 x2 (nI i) f_maxStates f_maxTransitions (nI ev) f_maxSituations f_phase (nI (zs_n c)) (nI (zs_q c)) f_found (zn_A (c 0)) (zn_A (c 1)) (zn_A (c 2)) (zn_A (c 3)) (zn_A (c 4)) (zn_A (c 5)) (zn_A (c 6)) (zn_A (c 7)) (zn_A (c 8)) (zn_A (c 9)) (zn_A (c 10)) a_active a_last a_logs a_logSize a_enabled a_taken a_exited a_by a_before a_here a_next := by
  unfold wY_domain_63
  exact br_t rfl (nm_r (nI_1 i) hp)
theorem zy_d59 {post : Int32 → Prop} {J : Int32 → Int32 → Prop} {x1 : Int32} {i b : Nat} (hG : zs_G c ev) (hi : i < zs_n c) (hb : b < zs_n c) (h0 : zc_DP (c 0) i ≤ zc_DP (c 0) b → J (nI b) (nI (i + 1))) (h1 : zc_DP (c 0) b < zc_DP (c 0) i → J (nI i) (nI (i + 1))) : wY_domain_59 post J x1 (nI b) (nI i) f_maxStates f_maxTransitions (nI ev) f_maxSituations f_phase (nI (zs_n c)) (nI (zs_q c)) f_found (zn_A (c 0)) (zn_A (c 1)) (zn_A (c 2)) (zn_A (c 3)) (zn_A (c 4)) (zn_A (c 5)) (zn_A (c 6)) (zn_A (c 7)) (zn_A (c 8)) (zn_A (c 9)) (zn_A (c 10)) a_active a_last a_logs a_logSize a_enabled a_taken a_exited a_by a_before a_here a_next := by
  have hn := zs_Gn hG
  have d1 := zc_DP_le (zs_GP hG) i hi
  have d2 := zc_DP_le (zs_GP hG) b hb
  unfold wY_domain_59
  refine br_f (by decide) ?_
  refine zy_dp hG hi (zy_dp hG hb ?_)
  refine pk_le (zc_DP (c 0) i) (zc_DP (c 0) b) (fun h => ?_) (fun h => ?_)
  · exact nm_r (nI_1 i) (h0 h)
  · exact nm_r (nI_1 i) (h1 h)
theorem zy_dm4 {post : Int32 → Prop} (hG : zs_G c ev) {t : Nat} (ht : t < zs_q c) (hp : post (nI (zs_dm c t))) : ∀ k i, i + k = zs_n c → wY_domain_4 post (nI t) f_maxStates f_maxTransitions (nI ev) f_maxSituations f_phase (nI (zs_n c)) (nI (zs_q c)) f_found (zn_A (c 0)) (zn_A (c 1)) (zn_A (c 2)) (zn_A (c 3)) (zn_A (c 4)) (zn_A (c 5)) (zn_A (c 6)) (zn_A (c 7)) (zn_A (c 8)) (zn_A (c 9)) (zn_A (c 10)) a_active a_last a_logs a_logSize a_enabled a_taken a_exited a_by a_before a_here a_next (k + 1) (nI (zn_hi (zc_dq (c 0) (c 1) (c 5 t) (c 7 t)) (i - 1))) (nI i) := by
  intro k
  have hn := zs_Gn hG
  have hP := zs_GP hG
  obtain ⟨a1, a2, a3, a4, a5, a6⟩ := zs_Gt hG ht
  have vit : vp_in (nI t) 16 := vp_in_nI (by omega) (by decide)
  have esr : zn_A (c 5) (nI t).toNatClampNeg = nI (c 5 t) := zn_rd (c 5) (by omega)
  have etg : zn_A (c 7) (nI t).toNatClampNeg = nI (c 7 t) := zn_rd (c 7) (by omega)
  induction k with
  | zero =>
    intro i hi
    have hi' : i = zs_n c := by omega
    subst hi'
    rw [zc_DM_n hP a4]
    exact br_t (nI_le (by omega) (by omega)) hp
  | succ k ih =>
    intro i hi
    have h := ih (i + 1) (by omega)
    rw [Nat.add_sub_cancel] at h
    have hno : zc_dq (c 0) (c 1) (c 5 t) (c 7 t) i = false → wY_domain_63 post (wY_domain_4 post (nI t) f_maxStates f_maxTransitions (nI ev) f_maxSituations f_phase (nI (zs_n c)) (nI (zs_q c)) f_found (zn_A (c 0)) (zn_A (c 1)) (zn_A (c 2)) (zn_A (c 3)) (zn_A (c 4)) (zn_A (c 5)) (zn_A (c 6)) (zn_A (c 7)) (zn_A (c 8)) (zn_A (c 9)) (zn_A (c 10)) a_active a_last a_logs a_logSize a_enabled a_taken a_exited a_by a_before a_here a_next (k + 1)) (nI t) (nI (zn_hi (zc_dq (c 0) (c 1) (c 5 t) (c 7 t)) (i - 1))) (nI i) f_maxStates f_maxTransitions (nI ev) f_maxSituations f_phase (nI (zs_n c)) (nI (zs_q c)) f_found (zn_A (c 0)) (zn_A (c 1)) (zn_A (c 2)) (zn_A (c 3)) (zn_A (c 4)) (zn_A (c 5)) (zn_A (c 6)) (zn_A (c 7)) (zn_A (c 8)) (zn_A (c 9)) (zn_A (c 10)) a_active a_last a_logs a_logSize a_enabled a_taken a_exited a_by a_before a_here a_next := by
      intro hf
      apply zy_d63
      cases i with
      | zero => exact h
      | succ i => rw [zn_hi_n hf] at h; exact h
    have hyes : zc_dq (c 0) (c 1) (c 5 t) (c 7 t) i = true → wY_domain_59 post (wY_domain_4 post (nI t) f_maxStates f_maxTransitions (nI ev) f_maxSituations f_phase (nI (zs_n c)) (nI (zs_q c)) f_found (zn_A (c 0)) (zn_A (c 1)) (zn_A (c 2)) (zn_A (c 3)) (zn_A (c 4)) (zn_A (c 5)) (zn_A (c 6)) (zn_A (c 7)) (zn_A (c 8)) (zn_A (c 9)) (zn_A (c 10)) a_active a_last a_logs a_logSize a_enabled a_taken a_exited a_by a_before a_here a_next (k + 1)) (nI t) (nI (zn_hi (zc_dq (c 0) (c 1) (c 5 t) (c 7 t)) (i - 1))) (nI i) f_maxStates f_maxTransitions (nI ev) f_maxSituations f_phase (nI (zs_n c)) (nI (zs_q c)) f_found (zn_A (c 0)) (zn_A (c 1)) (zn_A (c 2)) (zn_A (c 3)) (zn_A (c 4)) (zn_A (c 5)) (zn_A (c 6)) (zn_A (c 7)) (zn_A (c 8)) (zn_A (c 9)) (zn_A (c 10)) a_active a_last a_logs a_logSize a_enabled a_taken a_exited a_by a_before a_here a_next := by
      intro hf
      cases i with
      | zero => exact zy_d59 hG (by omega) (show 0 < zs_n c by omega) (fun _ => h) (fun h2 => absurd h2 (Nat.lt_irrefl _))
      | succ i =>
        rw [zn_hi_t hf] at h
        rw [Nat.add_sub_cancel]
        have hq := (zc_dq_t.mp hf).2.1
        have hsp : zn_hi (zc_dq (c 0) (c 1) (c 5 t) (c 7 t)) i < i + 1 ∧ zc_AB (c 0) (zn_hi (zc_dq (c 0) (c 1) (c 5 t) (c 7 t)) i) (c 7 t) = true := by
          rcases zn_hi_sp (f := zc_dq (c 0) (c 1) (c 5 t) (c 7 t)) i with ⟨b1, b2, b3⟩ | b
          · exact ⟨by omega, (zc_dq_t.mp b3).2.1⟩
          · rw [b]; exact ⟨by omega, zc_AB_root hP _ a3 a4⟩
        have hlt : zc_DP (c 0) (zn_hi (zc_dq (c 0) (c 1) (c 5 t) (c 7 t)) i) < zc_DP (c 0) (i + 1) := by
          rcases zc_AB_ch hP (c 7 t) a4 hsp.2 hq with e | e | e
          · have := hsp.1; omega
          · exact zc_DP_AB hP (i + 1) (by omega) e
          · have := zc_AB_lt hP _ (by have := hsp.1; omega) e
            have := hsp.1; omega
        exact zy_d59 hG (by omega) (by have := hsp.1; omega) (fun h2 => absurd hlt (Nat.not_lt.mpr h2)) (fun _ => h)
    refine br_f (nI_ge (by omega) (by omega)) ?_
    refine And.intro (vp_in_nI (by omega) (by decide)) ?_
    refine ek_if (zn_req (v := 0) (by omega) (zs_Gb hG 1 i) (by decide)) (fun h1 => ?_) (fun h1 => ?_)
    · refine And.intro vit ?_
      rw [etg]
      refine zy_ab hG (by omega) a4 ?_
      refine ek_if zn_b0 (fun h2 => ?_) (fun h2 => ?_)
      · refine hno ?_
        unfold zc_dq
        rw [h2]; simp
      · refine And.intro vit ?_
        rw [esr]
        refine ek_if (nI_eq (by omega) (by omega)) (fun h3 => ?_) (fun h3 => ?_)
        · exact hyes (zc_dq_t.mpr ⟨h1, zn_bt h2, Or.inl h3⟩)
        · refine And.intro vit ?_
          refine zy_ab hG (by omega) a1 ?_
          refine ek_if zn_b0 (fun h4 => ?_) (fun h4 => ?_)
          · refine hno ?_
            unfold zc_dq
            rw [h4, decide_eq_false h3]; simp
          · exact hyes (zc_dq_t.mpr ⟨h1, zn_bt h2, Or.inr (zn_bt h4)⟩)
    · refine hno ?_
      unfold zc_dq
      rw [decide_eq_false h1]; simp
theorem zy_dm {post : Int32 → Prop} (hG : zs_G c ev) {t : Nat} (ht : t < zs_q c) (hp : post (nI (zs_dm c t))) : wpY_domain post (f_maxStates, f_maxTransitions, nI ev, f_maxSituations, f_phase, nI (zs_n c), nI (zs_q c), f_found, zn_A (c 0), zn_A (c 1), zn_A (c 2), zn_A (c 3), zn_A (c 4), zn_A (c 5), zn_A (c 6), zn_A (c 7), zn_A (c 8), zn_A (c 9), zn_A (c 10), a_active, a_last, a_logs, a_logSize, a_enabled, a_taken, a_exited, a_by, a_before, a_here, a_next) (nI t) :=
  ⟨zs_n c + 1, zy_dm4 hG ht hp (zs_n c) 0 (Nat.zero_add _)⟩
end ZYT
end
section
section ZYE
/-! the reference's walks: entering -/
/-- slot m holds the situation z -/
def zy_S (act last : Nat → Int32) (m z : Nat) : Prop := ∀ s, s < 12 → act (m * 12 + s) = zn_b (z.testBit s) ∧ last (m * 12 + s) = nI (zw_L z s)
/-- nothing outside slot m has changed -/
def zy_F (m : Nat) (act last act' last' : Nat → Int32) : Prop := ∀ j, j < m * 12 ∨ m * 12 + 12 ≤ j → act' j = act j ∧ last' j = last j
theorem zy_F_rf {m : Nat} {act last : Nat → Int32} : zy_F m act last act last := fun _ _ => ⟨rfl, rfl⟩
theorem zy_F_tr {m : Nat} {act last act' last' act'' last'' : Nat → Int32} (h : zy_F m act last act' last') (h' : zy_F m act' last' act'' last'') : zy_F m act last act'' last'' :=
  fun j hj => ⟨(h' j hj).1.trans (h j hj).1, (h' j hj).2.trans (h j hj).2⟩
theorem zy_S_F {m m' z : Nat} {act last act' last' : Nat → Int32} (h : zy_F m act last act' last') (hm : m' ≠ m) (hs : zy_S act last m' z) : zy_S act' last' m' z := by
  intro s hs'
  have a := h (m' * 12 + s) (by omega)
  rw [a.1, a.2]
  exact hs s hs'
theorem zy_F_a {m s : Nat} {act last act' last' : Nat → Int32} {v : Int32} (h : zy_F m act last act' last') (hs : s < 12) : zy_F m act last (upd act' (m * 12 + s) v) last' :=
  fun j hj => ⟨(pk_un (by omega)).trans (h j hj).1, (h j hj).2⟩
theorem zy_F_l {m s : Nat} {act last act' last' : Nat → Int32} {v : Int32} (h : zy_F m act last act' last') (hs : s < 12) : zy_F m act last act' (upd last' (m * 12 + s) v) :=
  fun j hj => ⟨(h j hj).1, (pk_un (by omega)).trans (h j hj).2⟩
variable {c : Nat → Nat → Nat} {ev : Nat}
variable {f_maxStates f_maxTransitions f_maxSituations f_phase f_found : Int32} {a_active a_last a_logs a_logSize a_enabled a_taken a_exited a_by a_before a_here a_next : Nat → Int32}
abbrev zy_J : Type := Int32 → (Nat → Int32) → (Nat → Int32) → (Nat → Int32) → (Nat → Int32) → (Nat → Int32) → (Nat → Int32) → (Nat → Int32) → (Nat → Int32) → (Nat → Int32) → (Nat → Int32) → (Nat → Int32) → (Nat → Int32) → (Nat → Int32) → (Nat → Int32) → (Nat → Int32) → (Nat → Int32) → (Nat → Int32) → (Nat → Int32) → (Nat → Int32) → (Nat → Int32) → (Nat → Int32) → (Nat → Int32) → Prop
theorem zy_upB {by0 by1 : Nat → Int32} {t : Int32} {cq : Nat → Bool} {i n : Nat} (h : ∀ x, x < n → by1 x = if (decide (x < i) && cq x) = true then t else by0 x) (hc : cq i = true) : ∀ x, x < n → upd by1 i t x = if (decide (x < i + 1) && cq x) = true then t else by0 x := by
  intro x hx
  by_cases e : x = i
  · subst e
    rw [pk_us, hc, decide_eq_true (show x < x + 1 by omega)]; rfl
  · rw [pk_un e, h x hx]
    by_cases e2 : x < i
    · rw [decide_eq_true e2, decide_eq_true (show x < i + 1 by omega)]
    · rw [decide_eq_false e2, decide_eq_false (show ¬ x < i + 1 by omega)]
theorem zy_upN {by0 by1 : Nat → Int32} {t : Int32} {cq : Nat → Bool} {i n : Nat} (h : ∀ x, x < n → by1 x = if (decide (x < i) && cq x) = true then t else by0 x) (hc : cq i = false) : ∀ x, x < n → by1 x = if (decide (x < i + 1) && cq x) = true then t else by0 x := by
  intro x hx
  rw [h x hx]
  by_cases e : x = i
  · subst e
    rw [hc, Bool.and_false, Bool.and_false]
  · by_cases e2 : x < i
    · rw [decide_eq_true e2, decide_eq_true (show x < i + 1 by omega)]
    · rw [decide_eq_false e2, decide_eq_false (show ¬ x < i + 1 by omega)]
theorem zy_e157 {post : SY → Prop} {J : zy_J} {t x3 x4 x5 : Int32} {tg md B s : Nat} {by0 : Nat → Int32} (hG : zs_G c ev) (hs : s < zs_n c) {pk : Nat} (hpk : pk < 2 ^ 31) (hpe : pk = zs_pk c tg md B s) (K : ∀ by' : Nat → Int32, (∀ x, x < zs_n c → by' x = if zs_cq c tg md B s x = true then t else by0 x) → J (nI (s + 1)) (zn_A (c 0)) (zn_A (c 1)) (zn_A (c 2)) (zn_A (c 3)) (zn_A (c 4)) (zn_A (c 5)) (zn_A (c 6)) (zn_A (c 7)) (zn_A (c 8)) (zn_A (c 9)) (zn_A (c 10)) a_active a_last a_logs a_logSize a_enabled a_taken a_exited by' a_before a_here a_next) : ∀ k i (by1 : Nat → Int32), i + k = zs_n c → 0 < i → (∀ x, x < zs_n c → by1 x = if (decide (x < i) && zs_cq c tg md B s x) = true then t else by0 x) → wY_enter_157 post J t x3 x4 x5 (nI s) (nI pk) f_maxStates f_maxTransitions (nI ev) f_maxSituations f_phase (nI (zs_n c)) (nI (zs_q c)) f_found (k + 1) (nI i) (zn_A (c 0)) (zn_A (c 1)) (zn_A (c 2)) (zn_A (c 3)) (zn_A (c 4)) (zn_A (c 5)) (zn_A (c 6)) (zn_A (c 7)) (zn_A (c 8)) (zn_A (c 9)) (zn_A (c 10)) a_active a_last a_logs a_logSize a_enabled a_taken a_exited by1 a_before a_here a_next := by
  intro k
  have hn := zs_Gn hG
  induction k with
  | zero =>
    intro i by1 hi h0 h
    refine br_t (nI_le (by omega) (by omega)) (nm_r (nI_1 s) (K by1 (fun x hx => ?_)))
    rw [h x hx, decide_eq_true (show x < i by omega), Bool.true_and]
  | succ k ih =>
    intro i by1 hi h0 h
    have vii : vp_in (nI i) 12 := vp_in_nI (by omega) (by decide)
    have eci : (nI i).toNatClampNeg = i := nI_clamp (by omega)
    refine br_f (nI_ge (by omega) (by omega)) (And.intro vii ?_)
    refine ek_if (zn_req (by omega) (zs_Gb hG 0 i) (by omega)) (fun h1 => ?_) (fun h1 => ?_)
    · refine And.intro (vp_in_nI (by omega) (by decide)) ?_
      refine ek_if (zn_req (v := 1) (by omega) (zs_Gb hG 1 s) (by decide)) (fun h2 => ?_) (fun h2 => ?_)
      · refine And.intro vii ?_
        rw [eci]
        refine nm_e (nm_r (nI_1 i) (ih (i + 1) _ (by omega) (by omega) (zy_upB h ?_)))
        unfold zs_cq
        rw [decide_eq_true h0, decide_eq_true h1, decide_eq_true h2]; rfl
      · refine ek_if (nI_eq (by omega) hpk) (fun h3 => ?_) (fun h3 => ?_)
        · refine And.intro vii ?_
          rw [eci]
          refine nm_e (nm_r (nI_1 i) (ih (i + 1) _ (by omega) (by omega) (zy_upB h ?_)))
          unfold zs_cq
          rw [decide_eq_true h0, decide_eq_true h1, ← hpe, decide_eq_true h3]; simp
        · refine nm_r (nI_1 i) (ih (i + 1) _ (by omega) (by omega) (zy_upN h ?_))
          unfold zs_cq
          rw [← hpe, decide_eq_false h3, decide_eq_false h2]; simp
    · refine nm_r (nI_1 i) (ih (i + 1) _ (by omega) (by omega) (zy_upN h ?_))
      unfold zs_cq
      rw [decide_eq_false h1]; simp
theorem zy_e157' {post : SY → Prop} {J : zy_J} {t x3 x4 x5 : Int32} {tg md B s : Nat} {by0 : Nat → Int32} (hG : zs_G c ev) (hs : s < zs_n c) {pk : Nat} (hpk : pk < 2 ^ 31) (hpe : pk = zs_pk c tg md B s) (K : ∀ by' : Nat → Int32, (∀ x, x < zs_n c → by' x = if zs_cq c tg md B s x = true then t else by0 x) → J (nI (s + 1)) (zn_A (c 0)) (zn_A (c 1)) (zn_A (c 2)) (zn_A (c 3)) (zn_A (c 4)) (zn_A (c 5)) (zn_A (c 6)) (zn_A (c 7)) (zn_A (c 8)) (zn_A (c 9)) (zn_A (c 10)) a_active a_last a_logs a_logSize a_enabled a_taken a_exited by' a_before a_here a_next) : ∃ n157 : Nat, wY_enter_157 post J t x3 x4 x5 (nI s) (nI pk) f_maxStates f_maxTransitions (nI ev) f_maxSituations f_phase (nI (zs_n c)) (nI (zs_q c)) f_found n157 1 (zn_A (c 0)) (zn_A (c 1)) (zn_A (c 2)) (zn_A (c 3)) (zn_A (c 4)) (zn_A (c 5)) (zn_A (c 6)) (zn_A (c 7)) (zn_A (c 8)) (zn_A (c 9)) (zn_A (c 10)) a_active a_last a_logs a_logSize a_enabled a_taken a_exited by0 a_before a_here a_next := by
  have hn := zs_Gn hG
  refine ⟨(zs_n c - 1) + 1, ?_⟩
  refine zy_e157 hG hs hpk hpe K (zs_n c - 1) 1 by0 (by omega) (by omega) (fun x hx => ?_)
  by_cases e : x < 1
  · have e0 : x = 0 := by omega
    subst e0
    unfold zs_cq
    simp
  · rw [decide_eq_false e, Bool.false_and, if_neg (by decide)]
theorem zy_e132 {post : SY → Prop} {J : zy_J} {t x3 x4 : Int32} {m tg md B s : Nat} {by0 last : Nat → Int32} (hG : zs_G c ev) (hm : m < 19) (hs : s < zs_n c) {pk : Nat} (hpk : pk < 2 ^ 31) (hpe : pk = zs_pk c tg md B s) (K : ∀ by' : Nat → Int32, (∀ x, x < zs_n c → by' x = if zs_cq c tg md B s x = true then t else by0 x) → J (nI (s + 1)) (zn_A (c 0)) (zn_A (c 1)) (zn_A (c 2)) (zn_A (c 3)) (zn_A (c 4)) (zn_A (c 5)) (zn_A (c 6)) (zn_A (c 7)) (zn_A (c 8)) (zn_A (c 9)) (zn_A (c 10)) a_active (if c 2 s = 0 then last else upd last (m * 12 + s) (nI (zs_pk c tg md B s))) a_logs a_logSize a_enabled a_taken a_exited by' a_before a_here a_next) : wY_enter_132 post J t x3 x4 (nI (m * 12)) (nI s) (nI pk) f_maxStates f_maxTransitions (nI ev) f_maxSituations f_phase (nI (zs_n c)) (nI (zs_q c)) f_found (zn_A (c 0)) (zn_A (c 1)) (zn_A (c 2)) (zn_A (c 3)) (zn_A (c 4)) (zn_A (c 5)) (zn_A (c 6)) (zn_A (c 7)) (zn_A (c 8)) (zn_A (c 9)) (zn_A (c 10)) a_active last a_logs a_logSize a_enabled a_taken a_exited by0 a_before a_here a_next := by
  have hn := zs_Gn hG
  refine And.intro (vp_in_nI (by omega) (by decide)) ?_
  refine ek_if (zn_req (v := 0) (by omega) (zs_Gb hG 2 s) (by decide)) (fun h1 => ?_) (fun h1 => ?_)
  · refine zy_e157' hG hs hpk hpe (fun by' h => ?_)
    have := K by' h
    rw [if_pos h1] at this
    exact this
  · rw [nI_add]
    refine And.intro (vp_in_nI (by omega) (by decide)) ?_
    rw [nI_clamp (show m * 12 + s < 2 ^ 31 by omega)]
    refine nm_e (zy_e157' hG hs hpk hpe (fun by' h => ?_))
    have := K by' h
    rw [if_neg h1, ← hpe] at this
    exact this
theorem zy_pklt (hG : zs_G c ev) {tg md B s : Nat} : zs_pk c tg md B s < 2 ^ 31 := by
  have hn := zs_Gn hG
  unfold zs_pk
  split
  · rcases zn_fi_sp (f := zc_cp (c 0) s tg) (d := 0) (zs_n c) 0 with ⟨j, _, h2, _, h4, _⟩ | ⟨h1, _⟩
    · show zn_fi _ _ _ _ < _
      rw [h4]; omega
    · show zn_fi _ _ _ _ < _
      rw [h1]; decide
  · split
    · have := zw_L_lt B s; omega
    · exact zs_Gb hG 2 s
theorem zy_e84 {post : SY → Prop} {J : zy_J} {t x4 : Int32} {m tg md B s : Nat} {by0 last bef : Nat → Int32} (hG : zs_G c ev) (hm : m < 19) (hs : s < zs_n c) (ht : tg < zs_n c) {z0 : Int32} (hz0 : z0 = zn_b (zs_hs c tg md s)) (hB : zs_hs c tg md s = true → bef s = nI (zw_L B s)) (K : ∀ by' : Nat → Int32, (∀ x, x < zs_n c → by' x = if zs_cq c tg md B s x = true then t else by0 x) → J (nI (s + 1)) (zn_A (c 0)) (zn_A (c 1)) (zn_A (c 2)) (zn_A (c 3)) (zn_A (c 4)) (zn_A (c 5)) (zn_A (c 6)) (zn_A (c 7)) (zn_A (c 8)) (zn_A (c 9)) (zn_A (c 10)) a_active (if c 2 s = 0 then last else upd last (m * 12 + s) (nI (zs_pk c tg md B s))) a_logs a_logSize a_enabled a_taken a_exited by' bef a_here a_next) : wY_enter_84 post J t (nI tg) x4 (nI (m * 12)) (nI s) (nI (c 2 s)) z0 f_maxStates f_maxTransitions (nI ev) f_maxSituations f_phase (nI (zs_n c)) (nI (zs_q c)) f_found (zn_A (c 0)) (zn_A (c 1)) (zn_A (c 2)) (zn_A (c 3)) (zn_A (c 4)) (zn_A (c 5)) (zn_A (c 6)) (zn_A (c 7)) (zn_A (c 8)) (zn_A (c 9)) (zn_A (c 10)) a_active last a_logs a_logSize a_enabled a_taken a_exited by0 bef a_here a_next := by
  subst hz0
  have hn := zs_Gn hG
  have vis : vp_in (nI s) 12 := vp_in_nI (by omega) (by decide)
  have ecs : (nI s).toNatClampNeg = s := nI_clamp (by omega)
  have hlt := zy_pklt hG (tg := tg) (md := md) (B := B) (s := s)
  unfold wY_enter_84
  refine zy_ab hG (by omega) ht ?_
  refine ek_if zn_b0 (fun h1 => ?_) (fun h1 => ?_)
  · refine ek_if zn_b0 (fun h2 => ?_) (fun h2 => ?_)
    · have e : c 2 s = zs_pk c tg md B s := by
        unfold zs_pk
        rw [h1, h2, if_neg (by decide), if_neg (by simp)]
      exact zy_e132 hG hm hs (zs_Gb hG 2 s) e K
    · refine And.intro vis ?_
      rw [ecs, hB (zn_bt h2)]
      refine ek_if (zn_e0 (by have := zw_L_lt B s; omega)) (fun h3 => ?_) (fun h3 => ?_)
      · have e : c 2 s = zs_pk c tg md B s := by
          unfold zs_pk
          rw [h1, h3, if_neg (by decide), if_neg (by simp)]
        exact zy_e132 hG hm hs (zs_Gb hG 2 s) e K
      · have e : zw_L B s = zs_pk c tg md B s := by
          unfold zs_pk
          rw [h1, if_neg (by decide), zn_bt h2, decide_eq_false h3, if_pos (by decide)]
        refine And.intro vis (nm_e ?_)
        exact zy_e132 hG hm hs (by rw [e]; exact hlt) e K
  · have e : zc_CT (c 0) (zs_n c) s tg = zs_pk c tg md B s := by
      unfold zs_pk
      rw [if_pos (zn_bt h1)]
    refine zy_ct hG (by omega) ht ?_
    exact zy_e132 hG hm hs (by rw [e]; exact hlt) e K
theorem zy_e79 {post : SY → Prop} {J : zy_J} {t x4 : Int32} {m tg md B s : Nat} {by0 last bef : Nat → Int32} (hG : zs_G c ev) (hm : m < 19) (hs : s < zs_n c) (ht : tg < zs_n c) (hh : zs_hs c tg md s = true) (hB : zs_hs c tg md s = true → bef s = nI (zw_L B s)) (K : ∀ by' : Nat → Int32, (∀ x, x < zs_n c → by' x = if zs_cq c tg md B s x = true then t else by0 x) → J (nI (s + 1)) (zn_A (c 0)) (zn_A (c 1)) (zn_A (c 2)) (zn_A (c 3)) (zn_A (c 4)) (zn_A (c 5)) (zn_A (c 6)) (zn_A (c 7)) (zn_A (c 8)) (zn_A (c 9)) (zn_A (c 10)) a_active (if c 2 s = 0 then last else upd last (m * 12 + s) (nI (zs_pk c tg md B s))) a_logs a_logSize a_enabled a_taken a_exited by' bef a_here a_next) : wY_enter_79 post J t (nI tg) x4 (nI (m * 12)) (nI s) (nI (c 2 s)) f_maxStates f_maxTransitions (nI ev) f_maxSituations f_phase (nI (zs_n c)) (nI (zs_q c)) f_found (zn_A (c 0)) (zn_A (c 1)) (zn_A (c 2)) (zn_A (c 3)) (zn_A (c 4)) (zn_A (c 5)) (zn_A (c 6)) (zn_A (c 7)) (zn_A (c 8)) (zn_A (c 9)) (zn_A (c 10)) a_active last a_logs a_logSize a_enabled a_taken a_exited by0 bef a_here a_next := by
  unfold wY_enter_79
  exact zy_e84 (z0 := 1) hG hm hs ht (by rw [hh]; rfl) hB K
theorem zy_e83 {post : SY → Prop} {J : zy_J} {t x4 : Int32} {m tg md B s : Nat} {by0 last bef : Nat → Int32} (hG : zs_G c ev) (hm : m < 19) (hs : s < zs_n c) (ht : tg < zs_n c) (hh : zs_hs c tg md s = false) (K : ∀ by' : Nat → Int32, (∀ x, x < zs_n c → by' x = if zs_cq c tg md B s x = true then t else by0 x) → J (nI (s + 1)) (zn_A (c 0)) (zn_A (c 1)) (zn_A (c 2)) (zn_A (c 3)) (zn_A (c 4)) (zn_A (c 5)) (zn_A (c 6)) (zn_A (c 7)) (zn_A (c 8)) (zn_A (c 9)) (zn_A (c 10)) a_active (if c 2 s = 0 then last else upd last (m * 12 + s) (nI (zs_pk c tg md B s))) a_logs a_logSize a_enabled a_taken a_exited by' bef a_here a_next) : wY_enter_83 post J t (nI tg) x4 (nI (m * 12)) (nI s) (nI (c 2 s)) f_maxStates f_maxTransitions (nI ev) f_maxSituations f_phase (nI (zs_n c)) (nI (zs_q c)) f_found (zn_A (c 0)) (zn_A (c 1)) (zn_A (c 2)) (zn_A (c 3)) (zn_A (c 4)) (zn_A (c 5)) (zn_A (c 6)) (zn_A (c 7)) (zn_A (c 8)) (zn_A (c 9)) (zn_A (c 10)) a_active last a_logs a_logSize a_enabled a_taken a_exited by0 bef a_here a_next := by
  unfold wY_enter_83
  exact zy_e84 (z0 := 0) hG hm hs ht (by rw [hh]; rfl) (fun h => by rw [hh] at h; exact absurd h (by decide)) K
theorem zy_e63 {post : SY → Prop} {J : zy_J} {t : Int32} {m tg md B s : Nat} {by0 last bef : Nat → Int32} (hG : zs_G c ev) (hm : m < 19) (hs : s < zs_n c) (ht : tg < zs_n c) (hmd : md < 2 ^ 31) (hh : ¬ (s = tg ∧ ¬ md = 0)) (hB : zs_hs c tg md s = true → bef s = nI (zw_L B s)) (K : ∀ by' : Nat → Int32, (∀ x, x < zs_n c → by' x = if zs_cq c tg md B s x = true then t else by0 x) → J (nI (s + 1)) (zn_A (c 0)) (zn_A (c 1)) (zn_A (c 2)) (zn_A (c 3)) (zn_A (c 4)) (zn_A (c 5)) (zn_A (c 6)) (zn_A (c 7)) (zn_A (c 8)) (zn_A (c 9)) (zn_A (c 10)) a_active (if c 2 s = 0 then last else upd last (m * 12 + s) (nI (zs_pk c tg md B s))) a_logs a_logSize a_enabled a_taken a_exited by' bef a_here a_next) : wY_enter_63 post J t (nI tg) (nI md) (nI (m * 12)) (nI s) (nI (c 2 s)) f_maxStates f_maxTransitions (nI ev) f_maxSituations f_phase (nI (zs_n c)) (nI (zs_q c)) f_found (zn_A (c 0)) (zn_A (c 1)) (zn_A (c 2)) (zn_A (c 3)) (zn_A (c 4)) (zn_A (c 5)) (zn_A (c 6)) (zn_A (c 7)) (zn_A (c 8)) (zn_A (c 9)) (zn_A (c 10)) a_active last a_logs a_logSize a_enabled a_taken a_exited by0 bef a_here a_next := by
  have hn := zs_Gn hG
  have e : zs_hs c tg md s = (zc_AB (c 0) tg s && decide (md = 2)) := by
    unfold zs_hs
    by_cases h1 : s = tg
    · by_cases h2 : md = 0
      · rw [decide_eq_true h2]; simp
      · exact absurd ⟨h1, h2⟩ hh
    · rw [decide_eq_false h1]; simp
  unfold wY_enter_63
  refine zy_ab hG (by omega) hs ?_
  refine ek_if zn_b0 (fun h1 => ?_) (fun h1 => ?_)
  · exact zy_e83 hG hm hs ht (by rw [e, h1]; rfl) K
  · refine ek_if (nI_eq (b := 2) hmd (by decide)) (fun h2 => ?_) (fun h2 => ?_)
    · exact zy_e79 hG hm hs ht (by rw [e, zn_bt h1, decide_eq_true h2]; rfl) hB K
    · exact zy_e83 hG hm hs ht (by rw [e, decide_eq_false h2, Bool.and_false]) K
/-- what holds at s while the reference enters -/
def zy_EI (c : Nat → Nat → Nat) (m s : Nat) (t : Int32) (A0 : Nat → Bool) (by0 act0 last0 by1 act last : Nat → Int32) (w : Nat × Nat) : Prop :=
  (∀ x, x < zs_n c → by1 x = if w.1.testBit x = true then t else by0 x) ∧
  (∀ x, x < 12 → act (m * 12 + x) = zn_b (A0 x || (w.1.testBit x && decide (x < s))) ∧ last (m * 12 + x) = nI (zw_L w.2 x)) ∧
  zy_F m act0 last0 act last
theorem zy_EI_n {m s : Nat} {t : Int32} {A0 : Nat → Bool} {by0 act0 last0 by1 act last : Nat → Int32} {w : Nat × Nat} (h : zy_EI c m s t A0 by0 act0 last0 by1 act last w) (hb : w.1.testBit s = false) : zy_EI c m (s + 1) t A0 by0 act0 last0 by1 act last w := by
  refine ⟨h.1, fun x hx => ⟨?_, (h.2.1 x hx).2⟩, h.2.2⟩
  rw [(h.2.1 x hx).1]
  by_cases e : x = s
  · subst e; rw [hb, Bool.false_and, Bool.false_and]
  · by_cases e2 : x < s
    · rw [decide_eq_true e2, decide_eq_true (show x < s + 1 by omega)]
    · rw [decide_eq_false e2, decide_eq_false (show ¬ x < s + 1 by omega)]
theorem zy_EI_t (hG : zs_G c ev) {m s tg md B : Nat} {t : Int32} {A0 : Nat → Bool} {by0 act0 last0 by1 by' act last : Nat → Int32} {w : Nat × Nat} (hs : s < zs_n c) (hB : zs_WL c B) (ht : tg < zs_n c) (h2 : zs_WL c w.2) (h : zy_EI c m s t A0 by0 act0 last0 by1 act last w) (hb : w.1.testBit s = true) (hby : ∀ x, x < zs_n c → by' x = if zs_cq c tg md B s x = true then t else by1 x) : zy_EI c m (s + 1) t A0 by0 act0 last0 by' (upd act (m * 12 + s) (zn_b true)) (if c 2 s = 0 then last else upd last (m * 12 + s) (nI (zs_pk c tg md B s))) (zs_eS c tg md B s w) := by
  have hn := zs_Gn hG
  rw [zs_eS_t hb]
  have hcm : ∀ x, x ≤ s → (zs_cm c tg md B s).testBit x = false := by
    intro x hx
    unfold zs_cm
    rw [zn_mk_in (by omega)]
    unfold zs_cq
    by_cases h0 : 0 < x
    · have := (zs_GP hG).2 x h0 (by omega)
      rw [decide_eq_false (p := c 0 x = s) (by omega)]; simp
    · rw [decide_eq_false h0]; rfl
  refine ⟨fun x hx => ?_, fun x hx => ⟨?_, ?_⟩, ?_⟩
  · show by' x = if (w.1 ||| zs_cm c tg md B s).testBit x = true then t else by0 x
    rw [hby x hx, Nat.testBit_or]
    show _ = if (w.1.testBit x || (zn_mk _ _).testBit x) = true then t else by0 x
    rw [zn_mk_in hx, h.1 x hx]
    cases w.1.testBit x <;> cases zs_cq c tg md B s x <;> rfl
  · show upd act (m * 12 + s) (zn_b true) (m * 12 + x) = zn_b (A0 x || ((w.1 ||| zs_cm c tg md B s).testBit x && decide (x < s + 1)))
    rw [Nat.testBit_or]
    by_cases e : x = s
    · subst e
      rw [pk_us, hb, decide_eq_true (show x < x + 1 by omega)]
      simp
    · rw [pk_un (by omega), (h.2.1 x hx).1]
      by_cases e2 : x < s
      · rw [decide_eq_true e2, decide_eq_true (show x < s + 1 by omega), hcm x (by omega), Bool.or_false]
      · rw [decide_eq_false e2, decide_eq_false (show ¬ x < s + 1 by omega), Bool.and_false, Bool.and_false]
  · show (if c 2 s = 0 then last else upd last (m * 12 + s) (nI (zs_pk c tg md B s))) (m * 12 + x) = nI (zw_L (if c 2 s = 0 then w.2 else zw_rc w.2 s (zs_pk c tg md B s)) x)
    by_cases hi : c 2 s = 0
    · rw [if_pos hi, if_pos hi]; exact (h.2.1 x hx).2
    · rw [if_neg hi, if_neg hi]
      have a := zs_pk_sp hG (md := md) hB ht hs hi
      rw [zw_rc_L h2.1 (zs_n16 hG a.2.1)]
      by_cases e : x = s
      · rw [e, pk_us, if_pos rfl]
      · rw [pk_un (by omega), if_neg e]; exact (h.2.1 x hx).2
  · by_cases hi : c 2 s = 0
    · rw [if_pos hi]; exact zy_F_a h.2.2 (by omega)
    · rw [if_neg hi]; exact zy_F_l (zy_F_a h.2.2 (by omega)) (by omega)
theorem zy_e9 {post : SY → Prop} {m t tg md B : Nat} {A0 : Nat → Bool} {by0 act0 last0 bef : Nat → Int32} (hG : zs_G c ev) (hm : m < 19) (htt : t < 2 ^ 31) (ht : tg < zs_n c) (hmd : md < 2 ^ 31) (hB : zs_WL c B) (hbef : ∀ x, x < zs_n c → zs_hs c tg md x = true → bef x = nI (zw_L B x)) (hby0 : ∀ x, x < zs_n c → by0 x ≠ nI t) : ∀ k s (w : Nat × Nat) (by1 act last : Nat → Int32), s + k = zs_n c → w.1 < 2 ^ zs_n c → zs_WL c w.2 → zy_EI c m s (nI t) A0 by0 act0 last0 by1 act last w → (∀ by' act' last' : Nat → Int32, zy_EI c m (zs_n c) (nI t) A0 by0 act0 last0 by' act' last' (zs_eL c tg md B k s w) → post (f_maxStates, f_maxTransitions, nI ev, f_maxSituations, f_phase, nI (zs_n c), nI (zs_q c), f_found, zn_A (c 0), zn_A (c 1), zn_A (c 2), zn_A (c 3), zn_A (c 4), zn_A (c 5), zn_A (c 6), zn_A (c 7), zn_A (c 8), zn_A (c 9), zn_A (c 10), act', last', a_logs, a_logSize, a_enabled, a_taken, a_exited, by', bef, a_here, a_next)) → wY_enter_9 post (nI t) (nI tg) (nI md) (nI (m * 12)) f_maxStates f_maxTransitions (nI ev) f_maxSituations f_phase (nI (zs_n c)) (nI (zs_q c)) f_found (k + 1) (nI s) (zn_A (c 0)) (zn_A (c 1)) (zn_A (c 2)) (zn_A (c 3)) (zn_A (c 4)) (zn_A (c 5)) (zn_A (c 6)) (zn_A (c 7)) (zn_A (c 8)) (zn_A (c 9)) (zn_A (c 10)) act last a_logs a_logSize a_enabled a_taken a_exited by1 bef a_here a_next := by
  intro k
  have hn := zs_Gn hG
  induction k with
  | zero =>
    intro s w by1 act last hs h1 h2 h K
    have hs' : s = zs_n c := by omega
    subst hs'
    exact br_t (nI_le (by omega) (by omega)) (K by1 act last h)
  | succ k ih =>
    intro s w by1 act last hs h1 h2 h K
    have vis : vp_in (nI s) 12 := vp_in_nI (by omega) (by decide)
    have ecs : (nI s).toNatClampNeg = s := nI_clamp (by omega)
    rw [zs_eL_s] at K
    refine br_f (nI_ge (by omega) (by omega)) (And.intro vis ?_)
    rw [ecs, nI_add, nI_clamp (show m * 12 + s < 2 ^ 31 by omega)]
    refine ek_if (d := w.1.testBit s = true) ?_ (fun hb => ?_) (fun hb => ?_)
    · rw [h.1 s (by omega)]
      cases w.1.testBit s
      · rw [if_neg (by decide)]
        exact ⟨fun e => absurd e (hby0 s (by omega)), fun e => absurd e (by decide)⟩
      · rw [if_pos rfl]
        exact ⟨fun _ => rfl, fun _ => rfl⟩
    · have a := zs_eS_I hG (md := md) (s := s) hB ht (by omega) h1 h2
      refine And.intro (vp_in_nI (by omega) (by decide)) (nm_r (congrArg (upd act (m * 12 + s)) zn_bn1) (And.intro vis (nm_r (e' := nI (c 2 s)) rfl ?_)))
      have K2 : ∀ by' : Nat → Int32, (∀ x, x < zs_n c → by' x = if zs_cq c tg md B s x = true then nI t else by1 x) → wY_enter_9 post (nI t) (nI tg) (nI md) (nI (m * 12)) f_maxStates f_maxTransitions (nI ev) f_maxSituations f_phase (nI (zs_n c)) (nI (zs_q c)) f_found (k + 1) (nI (s + 1)) (zn_A (c 0)) (zn_A (c 1)) (zn_A (c 2)) (zn_A (c 3)) (zn_A (c 4)) (zn_A (c 5)) (zn_A (c 6)) (zn_A (c 7)) (zn_A (c 8)) (zn_A (c 9)) (zn_A (c 10)) (upd act (m * 12 + s) (zn_b true)) (if c 2 s = 0 then last else upd last (m * 12 + s) (nI (zs_pk c tg md B s))) a_logs a_logSize a_enabled a_taken a_exited by' bef a_here a_next :=
        fun by' hby => ih (s + 1) _ by' _ _ (by omega) a.1 a.2 (zy_EI_t hG (by omega) hB ht h2 h hb hby) K
      refine ek_if (nI_eq (by omega) (by omega)) (fun h3 => ?_) (fun h3 => ?_)
      · refine ek_if (zn_e0 hmd) (fun h4 => ?_) (fun h4 => ?_)
        · exact zy_e63 hG hm (by omega) ht hmd (fun z => z.2 h4) (hbef s (by omega)) K2
        · refine zy_e79 hG hm (by omega) ht ?_ (hbef s (by omega)) K2
          unfold zs_hs
          rw [decide_eq_true h3, decide_eq_false h4]; rfl
      · exact zy_e63 hG hm (by omega) ht hmd (fun z => h3 z.1) (hbef s (by omega)) K2
    · have hb' := zn_bf hb
      rw [zs_eS_n hb'] at K
      exact nm_r (nI_1 s) (ih (s + 1) w by1 act last (by omega) h1 h2 (zy_EI_n h hb') K)
theorem zy_en {post : SY → Prop} {m t tg md B y f : Nat} {A0 : Nat → Bool} {by0 by1 act last bef : Nat → Int32} (hG : zs_G c ev) (hm : m < 19) (htt : t < 2 ^ 31) (ht : tg < zs_n c) (hmd : md < 2 ^ 31) (hB : zs_WL c B) (hf : f < zs_n c) (hy : zs_WL c y) (hbef : ∀ x, x < zs_n c → zs_hs c tg md x = true → bef x = nI (zw_L B x)) (hby0 : ∀ x, x < zs_n c → by0 x ≠ nI t) (hby1 : ∀ x, x < zs_n c → by1 x = if (2 ^ f).testBit x = true then nI t else by0 x) (hact : ∀ x, x < 12 → act (m * 12 + x) = zn_b (A0 x) ∧ last (m * 12 + x) = nI (zw_L y x)) (K : ∀ by' act' last' : Nat → Int32, (∀ x, x < zs_n c → by' x = if (zs_eL c tg md B (zs_n c) 0 (2 ^ f, y)).1.testBit x = true then nI t else by0 x) → (∀ x, x < 12 → act' (m * 12 + x) = zn_b (A0 x || (zs_eL c tg md B (zs_n c) 0 (2 ^ f, y)).1.testBit x) ∧ last' (m * 12 + x) = nI (zw_L (zs_eL c tg md B (zs_n c) 0 (2 ^ f, y)).2 x)) → zy_F m act last act' last' → post (f_maxStates, f_maxTransitions, nI ev, f_maxSituations, f_phase, nI (zs_n c), nI (zs_q c), f_found, zn_A (c 0), zn_A (c 1), zn_A (c 2), zn_A (c 3), zn_A (c 4), zn_A (c 5), zn_A (c 6), zn_A (c 7), zn_A (c 8), zn_A (c 9), zn_A (c 10), act', last', a_logs, a_logSize, a_enabled, a_taken, a_exited, by', bef, a_here, a_next)) : wpY_enter post (f_maxStates, f_maxTransitions, nI ev, f_maxSituations, f_phase, nI (zs_n c), nI (zs_q c), f_found, zn_A (c 0), zn_A (c 1), zn_A (c 2), zn_A (c 3), zn_A (c 4), zn_A (c 5), zn_A (c 6), zn_A (c 7), zn_A (c 8), zn_A (c 9), zn_A (c 10), act, last, a_logs, a_logSize, a_enabled, a_taken, a_exited, by1, bef, a_here, a_next) (nI m) (nI t) (nI tg) (nI md) := by
  have e : nI m * 12 = nI (m * 12) := pk_mul m 12
  refine nm_r e ⟨zs_n c + 1, ?_⟩
  have a := zs_eL_I hG (md := md) hB ht (zs_n c) 0 (2 ^ f, y) (Nat.zero_add _) (zs_2p hf) hy
  refine zy_e9 (A0 := A0) (by0 := by0) (act0 := act) (last0 := last) hG hm htt ht hmd hB hbef hby0 (zs_n c) 0 (2 ^ f, y) by1 act last (Nat.zero_add _) (zs_2p hf) hy ⟨hby1, fun x hx => ?_, zy_F_rf⟩ (fun by' act' last' h => ?_)
  · rw [decide_eq_false (Nat.not_lt_zero x), Bool.and_false, Bool.or_false]
    exact hact x hx
  · refine K by' act' last' h.1 (fun x hx => ?_) h.2.2
    have h3 := h.2.1 x hx
    refine ⟨?_, h3.2⟩
    rw [h3.1]
    by_cases e : x < zs_n c
    · rw [decide_eq_true e, Bool.and_true]
    · rw [zn_hb a.1 (by omega), Bool.false_and]
end ZYE
end
section
section ZYS
/-! the reference's walks: logs, start -/
variable {c : Nat → Nat → Nat} {ev : Nat}
variable {f_maxStates f_maxTransitions f_maxSituations f_phase f_found : Int32} {a_active a_last a_logs a_logSize a_enabled a_taken a_exited a_by a_before a_here a_next : Nat → Int32}
theorem zy_log {post : SY → Prop} {m code : Nat} {l : List Nat} {lg ll : Nat → Int32} (hm : m < 19) (hc : code < 2 ^ 31) (ho : zl_ok ll lg m l) (K : ∀ lg' ll' : Nat → Int32, zl_ok ll' lg' m (zl_ap l code) → zl_fr m lg ll lg' ll' → post (f_maxStates, f_maxTransitions, nI ev, f_maxSituations, f_phase, nI (zs_n c), nI (zs_q c), f_found, zn_A (c 0), zn_A (c 1), zn_A (c 2), zn_A (c 3), zn_A (c 4), zn_A (c 5), zn_A (c 6), zn_A (c 7), zn_A (c 8), zn_A (c 9), zn_A (c 10), a_active, a_last, lg', ll', a_enabled, a_taken, a_exited, a_by, a_before, a_here, a_next)) : wpY_log post (f_maxStates, f_maxTransitions, nI ev, f_maxSituations, f_phase, nI (zs_n c), nI (zs_q c), f_found, zn_A (c 0), zn_A (c 1), zn_A (c 2), zn_A (c 3), zn_A (c 4), zn_A (c 5), zn_A (c 6), zn_A (c 7), zn_A (c 8), zn_A (c 9), zn_A (c 10), a_active, a_last, lg, ll, a_enabled, a_taken, a_exited, a_by, a_before, a_here, a_next) (nI m) (nI code) := by
  have vin : vp_in (nI m) 19 := vp_in_nI hm (by decide)
  have ecm : (nI m).toNatClampNeg = m := nI_clamp (by omega)
  have h40 := ho.2.1
  refine ek_if (zn_e0 hc) (fun h => ?_) (fun h => ?_)
  · refine K lg ll ?_ zl_fr_rf
    rw [zl_ap_n (Or.inl h)]; exact ho
  · refine And.intro vin ?_
    rw [ecm, ho.1]
    refine pk_lt l.length 40 (fun h2 => ?_) (fun h2 => ?_) rfl rfl
    · rw [zx_ix (m := m) _ rfl, nI_clamp (show m * 40 + l.length < 2 ^ 31 by omega), nI_1]
      refine And.intro vin (And.intro (vp_in_nI (by omega) (by decide)) (nm_e (And.intro vin (And.intro vin (nm_e ?_)))))
      refine K _ _ ?_ (zl_put_fr h2)
      rw [zl_ap_t h h2]
      exact zl_put ho h2
    · refine K lg ll ?_ zl_fr_rf
      rw [zl_ap_n (Or.inr h2)]; exact ho
theorem zy_s73 {post : Int32 → SY → Prop} {m en : Nat} {act : Nat → Int32} (hG : zs_G c ev) (hm : m < 19) (hact : ∀ x, x < 12 → act (m * 12 + x) = zn_b (en.testBit x)) : ∀ k i l (lg ll : Nat → Int32), i + k = zs_n c → zl_ok ll lg m l → (∀ lg' ll' : Nat → Int32, zl_ok ll' lg' m (zl_up (Nat.testBit en) (c 3) k i l) → zl_fr m lg ll lg' ll' → post (nI (zn_c (zs_n c) (Nat.testBit en))) (f_maxStates, f_maxTransitions, nI ev, f_maxSituations, f_phase, nI (zs_n c), nI (zs_q c), f_found, zn_A (c 0), zn_A (c 1), zn_A (c 2), zn_A (c 3), zn_A (c 4), zn_A (c 5), zn_A (c 6), zn_A (c 7), zn_A (c 8), zn_A (c 9), zn_A (c 10), act, a_last, lg', ll', a_enabled, a_taken, a_exited, a_by, a_before, a_here, a_next)) → wY_start_73 post (nI m) (k + 1) (nI (zn_c i (Nat.testBit en))) (nI i) f_maxStates f_maxTransitions (nI ev) f_maxSituations f_phase (nI (zs_n c)) (nI (zs_q c)) f_found (zn_A (c 0)) (zn_A (c 1)) (zn_A (c 2)) (zn_A (c 3)) (zn_A (c 4)) (zn_A (c 5)) (zn_A (c 6)) (zn_A (c 7)) (zn_A (c 8)) (zn_A (c 9)) (zn_A (c 10)) act a_last lg ll a_enabled a_taken a_exited a_by a_before a_here a_next := by
  intro k
  have hn := zs_Gn hG
  induction k with
  | zero =>
    intro i l lg ll hi ho K
    have hi' : i = zs_n c := by omega
    subst hi'
    exact br_t (nI_le (by omega) (by omega)) (K lg ll ho zl_fr_rf)
  | succ k ih =>
    intro i l lg ll hi ho K
    have e : nI m * 12 + nI i = nI (m * 12 + i) := by
      show nI m * nI 12 + nI i = _
      rw [pk_mul, nI_add]
    refine br_f (nI_ge (by omega) (by omega)) ?_
    rw [e, nI_clamp (show m * 12 + i < 2 ^ 31 by omega), hact i (by omega)]
    refine And.intro (vp_in_nI (by omega) (by decide)) ?_
    have h := fun l' lg' ll' => ih (i + 1) l' lg' ll' (by omega)
    rw [zn_c_s] at h
    refine ek_if zn_b0 (fun h1 => ?_) (fun h1 => ?_)
    · rw [zl_up_n h1] at K
      rw [h1] at h
      exact nm_r (nI_1 i) (h l lg ll ho K)
    · rw [zl_up_t (zn_bt h1)] at K
      rw [zn_bt h1] at h
      refine And.intro (vp_in_nI (by omega) (by decide)) ?_
      rw [zn_rd (c 3) (by omega)]
      refine zy_log hm (zs_Gb hG 3 i) ho (fun lg' ll' h2 h3 => ?_)
      exact nm_r (nI_1 _) (nm_r (nI_1 i) (h _ lg' ll' h2 (fun a b h4 h5 => K a b h4 (zl_fr_tr h3 h5))))
theorem zy_S_ra {act last : Nat → Int32} {m y a : Nat} (hy : y < 2 ^ 60) (ha : a < 2 ^ 12) (h : ∀ x, x < 12 → act (m * 12 + x) = zn_b (a.testBit x) ∧ last (m * 12 + x) = nI (zw_L y x)) : zy_S act last m (zw_ra y a) := by
  intro x hx
  rw [zw_ra_a hy ha hx, zw_ra_L hy ha]
  exact h x hx
theorem zl_LOG_s (c : Nat → Nat → Nat) (en : Nat) : zl_LOG c 0 0 en = zl_up (Nat.testBit en) (c 3) (zs_n c) 0 [] := by
  unfold zl_LOG
  rw [zl_dn_0 _ _ (fun x _ => Nat.zero_testBit x), zl_up_0 (f := Nat.testBit 0) _ _ _ (fun x _ _ => Nat.zero_testBit x)]
theorem zy_s2 {post : Int32 → SY → Prop} {m : Nat} {act0 last0 lg ll : Nat → Int32} (hG : zs_G c ev) (hm : m < 19) (K : ∀ act' last' lg' ll' by' : Nat → Int32, zy_S act' last' m (zs_z0 c) → zl_ok ll' lg' m (zl_LOG c 0 0 (zs_st c).1) → zy_F m act0 last0 act' last' → zl_fr m lg ll lg' ll' → post (nI (zn_c (zs_n c) (Nat.testBit (zs_st c).1))) (f_maxStates, f_maxTransitions, nI ev, f_maxSituations, f_phase, nI (zs_n c), nI (zs_q c), f_found, zn_A (c 0), zn_A (c 1), zn_A (c 2), zn_A (c 3), zn_A (c 4), zn_A (c 5), zn_A (c 6), zn_A (c 7), zn_A (c 8), zn_A (c 9), zn_A (c 10), act', last', lg', ll', a_enabled, a_taken, a_exited, by', a_before, a_here, a_next)) : ∀ k i (act last by1 : Nat → Int32), i + k = 12 → zy_F m act0 last0 act last → (∀ x, x < i → act (m * 12 + x) = 0 ∧ last (m * 12 + x) = 0 ∧ by1 x = -1) → wY_start_2 post (nI m) f_maxStates f_maxTransitions (nI ev) f_maxSituations f_phase (nI (zs_n c)) (nI (zs_q c)) f_found (k + 1) (nI i) (zn_A (c 0)) (zn_A (c 1)) (zn_A (c 2)) (zn_A (c 3)) (zn_A (c 4)) (zn_A (c 5)) (zn_A (c 6)) (zn_A (c 7)) (zn_A (c 8)) (zn_A (c 9)) (zn_A (c 10)) act last lg ll a_enabled a_taken a_exited by1 a_before a_here a_next := by
  intro k
  have hn := zs_Gn hG
  have ecm : (nI m).toNatClampNeg = m := nI_clamp (by omega)
  induction k with
  | zero =>
    intro i act last by1 hi hF h
    have hi' : i = 12 := by omega
    subst hi'
    refine br_t (by decide) (nm_e ?_)
    have a := zs_st_I hG
    refine zy_en (t := 16) (tg := 0) (md := 0) (B := 0) (y := 0) (f := 0) (A0 := fun _ => false) (by0 := fun _ => -1) hG hm (by decide) (by omega) (by decide) zs_WL_0 (by omega) zs_WL_0 ?_ (fun x _ => by decide) (fun x hx => ?_) (fun x hx => ?_) (fun by' act' last' h1 h2 h3 => ?_)
    · intro x hx h4
      exfalso
      unfold zs_hs at h4
      simp at h4
    · rw [zx_2tb]
      by_cases e : x = 0
      · rw [e, pk_us, if_pos (by decide)]; rfl
      · rw [pk_un e, (h x (by omega)).2.2, decide_eq_false e, if_neg (by decide)]
    · rw [(h x hx).1, (h x hx).2.1, zw_L_0]
      exact ⟨rfl, rfl⟩
    · refine And.intro (vp_in_nI hm (by decide)) ?_
      rw [ecm]
      refine nm_e ⟨zs_n c + 1, ?_⟩
      refine zy_s73 (en := (zs_st c).1) hG hm (fun x hx => ?_) (zs_n c) 0 [] lg _ (Nat.zero_add _) zl_ok_0 (fun lg' ll' h4 h5 => ?_)
      · rw [(h2 x hx).1]; rfl
      · refine K act' last' lg' ll' by' ?_ ?_ (zy_F_tr hF h3) (zl_fr_tr zl_fr_0 h5)
        · exact zy_S_ra a.2.1 (zs_n12 hG a.1) (fun x hx => h2 x hx)
        · rw [zl_LOG_s]; exact h4
  | succ k ih =>
    intro i act last by1 hi hF h
    have e : nI m * 12 + nI i = nI (m * 12 + i) := by
      show nI m * nI 12 + nI i = _
      rw [pk_mul, nI_add]
    have vii : vp_in (nI (m * 12 + i)) 228 := vp_in_nI (by omega) (by decide)
    refine br_f (nI_ge (b := 12) (by omega) (by decide)) ?_
    rw [e, nI_clamp (show m * 12 + i < 2 ^ 31 by omega), nI_clamp (show i < 2 ^ 31 by omega)]
    refine And.intro vii (nm_e (And.intro vii (nm_e (And.intro (vp_in_nI (by omega) (by decide)) (nm_e (nm_r (nI_1 i) ?_))))))
    refine ih (i + 1) _ _ _ (by omega) (zy_F_l (zy_F_a hF (by omega)) (by omega)) (fun x hx => ?_)
    by_cases e2 : x = i
    · subst e2
      rw [pk_us, pk_us, pk_us]
      exact ⟨by decide, rfl, rfl⟩
    · rw [pk_un (by omega), pk_un (by omega), pk_un e2]
      exact h x (by omega)
theorem zy_start {post : Int32 → SY → Prop} {m : Nat} {act last lg ll : Nat → Int32} (hG : zs_G c ev) (hm : m < 19) (K : ∀ act' last' lg' ll' by' : Nat → Int32, zy_S act' last' m (zs_z0 c) → zl_ok ll' lg' m (zl_LOG c 0 0 (zs_st c).1) → zy_F m act last act' last' → zl_fr m lg ll lg' ll' → post (nI (zn_c (zs_n c) (Nat.testBit (zs_st c).1))) (f_maxStates, f_maxTransitions, nI ev, f_maxSituations, f_phase, nI (zs_n c), nI (zs_q c), f_found, zn_A (c 0), zn_A (c 1), zn_A (c 2), zn_A (c 3), zn_A (c 4), zn_A (c 5), zn_A (c 6), zn_A (c 7), zn_A (c 8), zn_A (c 9), zn_A (c 10), act', last', lg', ll', a_enabled, a_taken, a_exited, by', a_before, a_here, a_next)) : wpY_start post (f_maxStates, f_maxTransitions, nI ev, f_maxSituations, f_phase, nI (zs_n c), nI (zs_q c), f_found, zn_A (c 0), zn_A (c 1), zn_A (c 2), zn_A (c 3), zn_A (c 4), zn_A (c 5), zn_A (c 6), zn_A (c 7), zn_A (c 8), zn_A (c 9), zn_A (c 10), act, last, lg, ll, a_enabled, a_taken, a_exited, a_by, a_before, a_here, a_next) (nI m) :=
  ⟨13, zy_s2 hG hm K 12 0 act last a_by rfl zy_F_rf (fun x hx => absurd hx (Nat.not_lt_zero x))⟩
end ZYS
end
section
section ZYB
/-! the reference's walks: a step, from the marked transitions on -/
variable {c : Nat → Nat → Nat} {ev : Nat}
variable {f_maxStates f_maxTransitions f_maxSituations f_phase f_found : Int32} {a_active a_last a_logs a_logSize a_enabled a_taken a_exited a_by a_before a_here a_next : Nat → Int32}
theorem zy_622 {post : Int32 → SY → Prop} {cnt : Int32} {m en : Nat} {byA : Nat → Int32} (hG : zs_G c ev) (hm : m < 19) (hby : ∀ x, x < zs_n c → (byA x < 0 ↔ en.testBit x = false)) : ∀ k i l (lg ll : Nat → Int32), i + k = zs_n c → zl_ok ll lg m l → (∀ lg' ll' : Nat → Int32, zl_ok ll' lg' m (zl_up (Nat.testBit en) (c 3) k i l) → zl_fr m lg ll lg' ll' → post cnt (f_maxStates, f_maxTransitions, nI ev, f_maxSituations, f_phase, nI (zs_n c), nI (zs_q c), f_found, zn_A (c 0), zn_A (c 1), zn_A (c 2), zn_A (c 3), zn_A (c 4), zn_A (c 5), zn_A (c 6), zn_A (c 7), zn_A (c 8), zn_A (c 9), zn_A (c 10), a_active, a_last, lg', ll', a_enabled, a_taken, a_exited, byA, a_before, a_here, a_next)) → wY_step_622 post (nI m) cnt (k + 1) (nI i) f_maxStates f_maxTransitions (nI ev) f_maxSituations f_phase (nI (zs_n c)) (nI (zs_q c)) f_found (zn_A (c 0)) (zn_A (c 1)) (zn_A (c 2)) (zn_A (c 3)) (zn_A (c 4)) (zn_A (c 5)) (zn_A (c 6)) (zn_A (c 7)) (zn_A (c 8)) (zn_A (c 9)) (zn_A (c 10)) a_active a_last lg ll a_enabled a_taken a_exited byA a_before a_here a_next := by
  intro k
  have hn := zs_Gn hG
  induction k with
  | zero =>
    intro i l lg ll hi ho K
    exact br_t (nI_le (by omega) (by omega)) (K lg ll ho zl_fr_rf)
  | succ k ih =>
    intro i l lg ll hi ho K
    have vii : vp_in (nI i) 12 := vp_in_nI (by omega) (by decide)
    refine br_f (nI_ge (by omega) (by omega)) (And.intro vii ?_)
    rw [zn_rd (c 3) (show i < 2 ^ 31 by omega), nI_clamp (show i < 2 ^ 31 by omega)]
    refine ek_if (hby i (by omega)) (fun h => ?_) (fun h => ?_)
    · rw [zl_up_n h] at K
      exact nm_r (nI_1 i) (ih (i + 1) l lg ll (by omega) ho K)
    · rw [zl_up_t (zn_bt h)] at K
      refine And.intro vii ?_
      refine zy_log hm (zs_Gb hG 3 i) ho (fun lg' ll' h1 h2 => ?_)
      exact nm_r (nI_1 i) (ih (i + 1) _ lg' ll' (by omega) h1 (fun a b h3 h4 => K a b h3 (zl_fr_tr h2 h4)))
theorem zy_582 {post : Int32 → SY → Prop} {cnt : Int32} {m tk en : Nat} {byA tkA : Nat → Int32} (hG : zs_G c ev) (hm : m < 19) (hby : ∀ x, x < zs_n c → (byA x < 0 ↔ en.testBit x = false)) (htk : ∀ t, t < zs_q c → tkA t = zn_b (tk.testBit t)) : ∀ k i l (lg ll : Nat → Int32), i + k = zs_q c → zl_ok ll lg m l → (∀ lg' ll' : Nat → Int32, zl_ok ll' lg' m (zl_up (Nat.testBit en) (c 3) (zs_n c) 0 (zl_up (Nat.testBit tk) (c 10) k i l)) → zl_fr m lg ll lg' ll' → post cnt (f_maxStates, f_maxTransitions, nI ev, f_maxSituations, f_phase, nI (zs_n c), nI (zs_q c), f_found, zn_A (c 0), zn_A (c 1), zn_A (c 2), zn_A (c 3), zn_A (c 4), zn_A (c 5), zn_A (c 6), zn_A (c 7), zn_A (c 8), zn_A (c 9), zn_A (c 10), a_active, a_last, lg', ll', a_enabled, tkA, a_exited, byA, a_before, a_here, a_next)) → wY_step_582 post (nI m) cnt (k + 1) (nI i) f_maxStates f_maxTransitions (nI ev) f_maxSituations f_phase (nI (zs_n c)) (nI (zs_q c)) f_found (zn_A (c 0)) (zn_A (c 1)) (zn_A (c 2)) (zn_A (c 3)) (zn_A (c 4)) (zn_A (c 5)) (zn_A (c 6)) (zn_A (c 7)) (zn_A (c 8)) (zn_A (c 9)) (zn_A (c 10)) a_active a_last lg ll a_enabled tkA a_exited byA a_before a_here a_next := by
  intro k
  have hn := zs_Gn hG
  induction k with
  | zero =>
    intro i l lg ll hi ho K
    exact br_t (nI_le (by omega) (by omega)) ⟨zs_n c + 1, zy_622 hG hm hby (zs_n c) 0 l lg ll (Nat.zero_add _) ho K⟩
  | succ k ih =>
    intro i l lg ll hi ho K
    have vii : vp_in (nI i) 16 := vp_in_nI (by omega) (by decide)
    refine br_f (nI_ge (by omega) (by omega)) (And.intro vii ?_)
    rw [zn_rd (c 10) (show i < 2 ^ 31 by omega), nI_clamp (show i < 2 ^ 31 by omega), htk i (by omega)]
    refine ek_if zn_b0 (fun h => ?_) (fun h => ?_)
    · rw [zl_up_n h] at K
      exact nm_r (nI_1 i) (ih (i + 1) l lg ll (by omega) ho K)
    · rw [zl_up_t (zn_bt h)] at K
      refine And.intro vii ?_
      refine zy_log hm (zs_Gb hG 10 i) ho (fun lg' ll' h1 h2 => ?_)
      exact nm_r (nI_1 i) (ih (i + 1) _ lg' ll' (by omega) h1 (fun a b h3 h4 => K a b h3 (zl_fr_tr h2 h4)))
theorem zy_546 {post : Int32 → SY → Prop} {cnt : Int32} {m ex tk en : Nat} {byA tkA exA : Nat → Int32} (hG : zs_G c ev) (hm : m < 19) (hby : ∀ x, x < zs_n c → (byA x < 0 ↔ en.testBit x = false)) (htk : ∀ t, t < zs_q c → tkA t = zn_b (tk.testBit t)) (hex : ∀ s, s < zs_n c → exA s = zn_b (ex.testBit s)) : ∀ k l (lg ll : Nat → Int32), k ≤ zs_n c → zl_ok ll lg m l → (∀ lg' ll' : Nat → Int32, zl_ok ll' lg' m (zl_up (Nat.testBit en) (c 3) (zs_n c) 0 (zl_up (Nat.testBit tk) (c 10) (zs_q c) 0 (zl_dn (Nat.testBit ex) (c 4) k l))) → zl_fr m lg ll lg' ll' → post cnt (f_maxStates, f_maxTransitions, nI ev, f_maxSituations, f_phase, nI (zs_n c), nI (zs_q c), f_found, zn_A (c 0), zn_A (c 1), zn_A (c 2), zn_A (c 3), zn_A (c 4), zn_A (c 5), zn_A (c 6), zn_A (c 7), zn_A (c 8), zn_A (c 9), zn_A (c 10), a_active, a_last, lg', ll', a_enabled, tkA, exA, byA, a_before, a_here, a_next)) → wY_step_546 post (nI m) cnt (k + 1) (nI k + (-1)) f_maxStates f_maxTransitions (nI ev) f_maxSituations f_phase (nI (zs_n c)) (nI (zs_q c)) f_found (zn_A (c 0)) (zn_A (c 1)) (zn_A (c 2)) (zn_A (c 3)) (zn_A (c 4)) (zn_A (c 5)) (zn_A (c 6)) (zn_A (c 7)) (zn_A (c 8)) (zn_A (c 9)) (zn_A (c 10)) a_active a_last lg ll a_enabled tkA exA byA a_before a_here a_next := by
  intro k
  have hn := zs_Gn hG
  induction k with
  | zero =>
    intro l lg ll hi ho K
    exact br_t (by decide) ⟨zs_q c + 1, zy_582 hG hm hby htk (zs_q c) 0 l lg ll (Nat.zero_add _) ho K⟩
  | succ k ih =>
    intro l lg ll hi ho K
    rw [pk_m1]
    have vii : vp_in (nI k) 12 := vp_in_nI (by omega) (by decide)
    refine br_f (nI_pos (by omega)) (And.intro vii ?_)
    rw [zn_rd (c 4) (show k < 2 ^ 31 by omega), nI_clamp (show k < 2 ^ 31 by omega), hex k (by omega)]
    refine ek_if zn_b0 (fun h => ?_) (fun h => ?_)
    · rw [zl_dn_n h] at K
      exact nm_e (ih l lg ll (by omega) ho K)
    · rw [zl_dn_t (zn_bt h)] at K
      refine And.intro vii ?_
      refine zy_log hm (zs_Gb hG 4 k) ho (fun lg' ll' h1 h2 => ?_)
      exact nm_e (ih _ lg' ll' (by omega) h1 (fun a b h3 h4 => K a b h3 (zl_fr_tr h2 h4)))
/-- what holds when the transitions below t have entered -/
def zy_TI (c : Nat → Nat → Nat) (m t : Nat) (A1 : Nat → Bool) (act0 last0 by1 act last : Nat → Int32) (w : Nat × Nat) : Prop :=
  (∀ x, x < zs_n c → (w.1.testBit x = false → by1 x = -1) ∧ (w.1.testBit x = true → ∃ u, u < t ∧ by1 x = nI u)) ∧
  (∀ x, x < 12 → act (m * 12 + x) = zn_b (A1 x || w.1.testBit x) ∧ last (m * 12 + x) = nI (zw_L w.2 x)) ∧
  zy_F m act0 last0 act last
theorem zy_TI_up {m t : Nat} {A1 : Nat → Bool} {act0 last0 by1 act last : Nat → Int32} {w : Nat × Nat} (h : zy_TI c m t A1 act0 last0 by1 act last w) : zy_TI c m (t + 1) A1 act0 last0 by1 act last w :=
  ⟨fun x hx => ⟨(h.1 x hx).1, fun hb => by obtain ⟨u, hu, e⟩ := (h.1 x hx).2 hb; exact ⟨u, by omega, e⟩⟩, h.2⟩
theorem zy_446 {post : Int32 → SY → Prop} {cnt : Int32} {m z : Nat} {T : Nat → Bool} {A1 : Nat → Bool} {act0 last0 tkA bef : Nat → Int32} (hG : zs_G c ev) (hm : m < 19) (hz : zs_WL c z) (htk : ∀ t, t < zs_q c → tkA t = zn_b (T t)) (hbef : ∀ x, x < zs_n c → bef x = nI (zw_L z x)) (K : ∀ by' act' last' : Nat → Int32, zy_TI c m (zs_q c) A1 act0 last0 by' act' last' (zs_tL c z T (zs_q c)) → ∃ n546 : Nat, wY_step_546 post (nI m) cnt n546 (nI (zs_n c) + (-1)) f_maxStates f_maxTransitions (nI ev) f_maxSituations f_phase (nI (zs_n c)) (nI (zs_q c)) f_found (zn_A (c 0)) (zn_A (c 1)) (zn_A (c 2)) (zn_A (c 3)) (zn_A (c 4)) (zn_A (c 5)) (zn_A (c 6)) (zn_A (c 7)) (zn_A (c 8)) (zn_A (c 9)) (zn_A (c 10)) act' last' a_logs a_logSize a_enabled tkA a_exited by' bef a_here a_next) : ∀ k t (by1 act last : Nat → Int32), t + k = zs_q c → zy_TI c m t A1 act0 last0 by1 act last (zs_tL c z T t) → wY_step_446 post (nI m) (nI (m * 12)) cnt (k + 1) (nI t) f_maxStates f_maxTransitions (nI ev) f_maxSituations f_phase (nI (zs_n c)) (nI (zs_q c)) f_found (zn_A (c 0)) (zn_A (c 1)) (zn_A (c 2)) (zn_A (c 3)) (zn_A (c 4)) (zn_A (c 5)) (zn_A (c 6)) (zn_A (c 7)) (zn_A (c 8)) (zn_A (c 9)) (zn_A (c 10)) act last a_logs a_logSize a_enabled tkA a_exited by1 bef a_here a_next := by
  intro k
  have hn := zs_Gn hG
  induction k with
  | zero =>
    intro t by1 act last ht h
    have ht' : t = zs_q c := by omega
    subst ht'
    exact br_t (nI_le (by omega) (by omega)) (nm_r (Int32.sub_eq_add_neg _ _) (K by1 act last h))
  | succ k ih =>
    intro t by1 act last ht h
    have htq : t < zs_q c := by omega
    have vit : vp_in (nI t) 16 := vp_in_nI (by omega) (by decide)
    refine br_f (nI_ge (by omega) (by omega)) (And.intro vit ?_)
    rw [zn_rd (c 7) (show t < 2 ^ 31 by omega), zn_rd (c 8) (show t < 2 ^ 31 by omega), nI_clamp (show t < 2 ^ 31 by omega), htk t htq]
    refine ek_if zn_b0 (fun h1 => ?_) (fun h1 => ?_)
    · have h2 := ih (t + 1) by1 act last (by omega) (by rw [zs_tL_n h1]; exact zy_TI_up h)
      exact nm_r (nI_1 t) h2
    · have hT := zn_bt h1
      obtain ⟨a1, a2, a3, a4, a5, a6⟩ := zs_Gt hG htq
      have hd := zs_dmlt hG htq
      have hf := zs_fsp hG htq
      have hf12 : zs_f c t < 12 := Nat.lt_of_lt_of_le hf.2.1 hn.2.1
      have aI := zs_tL_I hG (T := T) hz t (by omega)
      have hWL := zs_WL_rc hG aI.2 hd hf.2.1 hf.2.2
      refine zy_dm hG htq (And.intro vit ?_)
      refine zy_ct hG (by omega) a4 ?_
      rw [nI_add, nI_clamp (show m * 12 + zs_dm c t < 2 ^ 31 by omega), nI_clamp (show zs_f c t < 2 ^ 31 by omega)]
      refine And.intro (vp_in_nI (by omega) (by decide)) (nm_e (And.intro (vp_in_nI hf12 (by decide)) (nm_e (And.intro vit (And.intro vit ?_)))))
      refine zy_en (B := z) (y := zw_rc (zs_tL c z T t).2 (zs_dm c t) (zs_f c t)) (f := zs_f c t) (A0 := fun x => A1 x || (zs_tL c z T t).1.testBit x) (by0 := by1) hG hm (by omega) a4 (by omega) hz hf.2.1 hWL (fun x hx _ => hbef x hx) (fun x hx => ?_) (fun x hx => ?_) (fun x hx => ?_) (fun by' act' last' h3 h4 h5 => ?_)
      · intro e
        cases hb : (zs_tL c z T t).1.testBit x
        · rw [(h.1 x hx).1 hb] at e
          have := nI_pos (n := t) (by omega)
          rw [← e] at this
          exact this (by decide)
        · obtain ⟨u, hu, e2⟩ := (h.1 x hx).2 hb
          rw [e2, nI_eq (by omega) (by omega)] at e
          omega
      · rw [zx_2tb]
        by_cases e : x = zs_f c t
        · rw [e, pk_us, decide_eq_true rfl, if_pos rfl]
        · rw [pk_un e, decide_eq_false e, if_neg (by decide)]
      · refine ⟨(h.2.1 x hx).1, ?_⟩
        rw [zw_rc_L aI.2.1 (zs_n16 hG hf.2.1)]
        by_cases e : x = zs_dm c t
        · rw [e, pk_us, if_pos rfl]
        · rw [pk_un (by omega), if_neg e]; exact (h.2.1 x hx).2
      · have h2 := ih (t + 1) by' act' last' (by omega) (by
          rw [zs_tL_t hT]
          refine ⟨fun x hx => ?_, fun x hx => ?_, fun j hj => ?_⟩
          · show (((zs_tL c z T t).1 ||| (zs_tE c z t (zs_tL c z T t).2).1).testBit x = false → _) ∧ (((zs_tL c z T t).1 ||| (zs_tE c z t (zs_tL c z T t).2).1).testBit x = true → _)
            have h6 : by' x = if (zs_tE c z t (zs_tL c z T t).2).1.testBit x = true then nI t else by1 x := h3 x hx
            rw [Nat.testBit_or]
            cases hb : (zs_tE c z t (zs_tL c z T t).2).1.testBit x
            · rw [hb, if_neg (by decide)] at h6
              rw [h6, Bool.or_false]
              exact ⟨(h.1 x hx).1, fun hb2 => by obtain ⟨u, hu, e⟩ := (h.1 x hx).2 hb2; exact ⟨u, by omega, e⟩⟩
            · rw [hb, if_pos rfl] at h6
              rw [h6, Bool.or_true]
              exact ⟨fun e => absurd e (by decide), fun _ => ⟨t, by omega, rfl⟩⟩
          · have h7 := h4 x hx
            refine ⟨?_, h7.2⟩
            show act' (m * 12 + x) = zn_b (A1 x || ((zs_tL c z T t).1 ||| (zs_tE c z t (zs_tL c z T t).2).1).testBit x)
            rw [h7.1, Nat.testBit_or, Bool.or_assoc]
            rfl
          · have h8 := h5 j hj
            have h9 := h.2.2 j hj
            refine ⟨h8.1.trans h9.1, h8.2.trans ?_⟩
            rw [pk_un (by omega)]; exact h9.2)
        exact nm_r (nI_1 t) h2
theorem zy_408 {post : Int32 → SY → Prop} {cnt : Int32} {m z : Nat} {E : Nat → Bool} {exA act0 last : Nat → Int32} (hG : zs_G c ev) (hm : m < 19) (hex : ∀ s, s < zs_n c → exA s = zn_b (E s)) (K : ∀ act' : Nat → Int32, (∀ x, x < 12 → act' (m * 12 + x) = zn_b (z.testBit x && !(decide (x < zs_n c) && E x))) → zy_F m act0 last act' last → ∃ n446 : Nat, wY_step_446 post (nI m) (nI (m * 12)) cnt n446 0 f_maxStates f_maxTransitions (nI ev) f_maxSituations f_phase (nI (zs_n c)) (nI (zs_q c)) f_found (zn_A (c 0)) (zn_A (c 1)) (zn_A (c 2)) (zn_A (c 3)) (zn_A (c 4)) (zn_A (c 5)) (zn_A (c 6)) (zn_A (c 7)) (zn_A (c 8)) (zn_A (c 9)) (zn_A (c 10)) act' last a_logs a_logSize a_enabled a_taken exA a_by a_before a_here a_next) : ∀ k i (act : Nat → Int32), i + k = zs_n c → (∀ x, x < 12 → act (m * 12 + x) = zn_b (z.testBit x && !(decide (x < i) && E x))) → zy_F m act0 last act last → wY_step_408 post (nI m) (nI (m * 12)) cnt f_maxStates f_maxTransitions (nI ev) f_maxSituations f_phase (nI (zs_n c)) (nI (zs_q c)) f_found (k + 1) (nI i) (zn_A (c 0)) (zn_A (c 1)) (zn_A (c 2)) (zn_A (c 3)) (zn_A (c 4)) (zn_A (c 5)) (zn_A (c 6)) (zn_A (c 7)) (zn_A (c 8)) (zn_A (c 9)) (zn_A (c 10)) act last a_logs a_logSize a_enabled a_taken exA a_by a_before a_here a_next := by
  intro k
  have hn := zs_Gn hG
  induction k with
  | zero =>
    intro i act hi h hF
    have hi' : i = zs_n c := by omega
    subst hi'
    exact br_t (nI_le (by omega) (by omega)) (K act h hF)
  | succ k ih =>
    intro i act hi h hF
    have hlt : ∀ x, x ≠ i → decide (x < i + 1) = decide (x < i) := by
      intro x hx
      by_cases e : x < i
      · rw [decide_eq_true e, decide_eq_true (show x < i + 1 by omega)]
      · rw [decide_eq_false e, decide_eq_false (show ¬ x < i + 1 by omega)]
    refine br_f (nI_ge (by omega) (by omega)) (And.intro (vp_in_nI (by omega) (by decide)) ?_)
    rw [nI_add, nI_clamp (show i < 2 ^ 31 by omega), nI_clamp (show m * 12 + i < 2 ^ 31 by omega), hex i (by omega)]
    refine ek_if zn_b0 (fun h1 => ?_) (fun h1 => ?_)
    · refine nm_r (nI_1 i) (ih (i + 1) act (by omega) (fun x hx => ?_) hF)
      rw [h x hx]
      by_cases e : x = i
      · rw [e, h1, Bool.and_false, Bool.and_false]
      · rw [hlt x e]
    · refine And.intro (vp_in_nI (by omega) (by decide)) (nm_r (congrArg (upd act (m * 12 + i)) zn_bn0) (nm_r (nI_1 i) (ih (i + 1) _ (by omega) (fun x hx => ?_) (zy_F_a hF (by omega)))))
      by_cases e : x = i
      · rw [e, pk_us, zn_bt h1, decide_eq_true (show i < i + 1 by omega)]
        simp
      · rw [pk_un (by omega), h x hx, hlt x e]
theorem zy_335 {post : Int32 → SY → Prop} {J : zy_J} {cnt : Int32} {m z s : Nat} {T : Nat → Bool} {act tkA ex0 : Nat → Int32} (hG : zs_G c ev) (hm : m < 19) (hs : s < zs_n c) (hact : act (m * 12 + s) = zn_b (z.testBit s)) (htk : ∀ t, t < zs_q c → tkA t = zn_b (T t)) (K : ∀ ex' : Nat → Int32, (∀ x, x ≠ s → ex' x = ex0 x) → ex' s = zn_b (z.testBit s && zn_any (zs_q c) (fun u => T u && zc_AB (c 0) (zs_dm c u) s)) → J (nI (s + 1)) (zn_A (c 0)) (zn_A (c 1)) (zn_A (c 2)) (zn_A (c 3)) (zn_A (c 4)) (zn_A (c 5)) (zn_A (c 6)) (zn_A (c 7)) (zn_A (c 8)) (zn_A (c 9)) (zn_A (c 10)) act a_last a_logs a_logSize a_enabled tkA ex' a_by a_before a_here a_next) : ∀ k i (exA : Nat → Int32), i + k = zs_q c → (∀ x, x ≠ s → exA x = ex0 x) → exA s = zn_b (z.testBit s && zn_any i (fun u => T u && zc_AB (c 0) (zs_dm c u) s)) → wY_step_335 post J (nI m) (nI (m * 12)) cnt (nI s) f_maxStates f_maxTransitions (nI ev) f_maxSituations f_phase (nI (zs_n c)) (nI (zs_q c)) f_found (k + 1) (nI i) (zn_A (c 0)) (zn_A (c 1)) (zn_A (c 2)) (zn_A (c 3)) (zn_A (c 4)) (zn_A (c 5)) (zn_A (c 6)) (zn_A (c 7)) (zn_A (c 8)) (zn_A (c 9)) (zn_A (c 10)) act a_last a_logs a_logSize a_enabled tkA exA a_by a_before a_here a_next := by
  intro k
  have hn := zs_Gn hG
  induction k with
  | zero =>
    intro i exA hi h1 h2
    have hi' : i = zs_q c := by omega
    subst hi'
    exact br_t (nI_le (by omega) (by omega)) (nm_r (nI_1 s) (K exA h1 h2))
  | succ k ih =>
    intro i exA hi h1 h2
    have hiq : i < zs_q c := by omega
    have hd := zs_dmlt hG hiq
    have hkeep : (z.testBit s && (T i && zc_AB (c 0) (zs_dm c i) s)) = false → wY_step_335 post J (nI m) (nI (m * 12)) cnt (nI s) f_maxStates f_maxTransitions (nI ev) f_maxSituations f_phase (nI (zs_n c)) (nI (zs_q c)) f_found (k + 1) (nI (i + 1)) (zn_A (c 0)) (zn_A (c 1)) (zn_A (c 2)) (zn_A (c 3)) (zn_A (c 4)) (zn_A (c 5)) (zn_A (c 6)) (zn_A (c 7)) (zn_A (c 8)) (zn_A (c 9)) (zn_A (c 10)) act a_last a_logs a_logSize a_enabled tkA exA a_by a_before a_here a_next := by
      intro h3
      refine ih (i + 1) exA (by omega) h1 ?_
      rw [h2, zn_any_s]
      congr 1
      revert h3
      cases z.testBit s
      · intro _; rfl
      · intro h3
        rw [Bool.true_and] at h3
        rw [h3, Bool.or_false]
    refine br_f (nI_ge (by omega) (by omega)) ?_
    refine zy_dm hG hiq (And.intro (vp_in_nI (by omega) (by decide)) ?_)
    rw [nI_add, nI_clamp (show i < 2 ^ 31 by omega), nI_clamp (show m * 12 + s < 2 ^ 31 by omega), nI_clamp (show s < 2 ^ 31 by omega), htk i hiq, hact]
    refine ek_if zn_b0 (fun h3 => ?_) (fun h3 => ?_)
    · exact nm_r (nI_1 i) (hkeep (by rw [h3]; simp))
    · refine And.intro (vp_in_nI (by omega) (by decide)) ?_
      refine ek_if zn_b0 (fun h4 => ?_) (fun h4 => ?_)
      · exact nm_r (nI_1 i) (hkeep (by rw [h4]; rfl))
      · refine zy_ab hG (by omega) hs ?_
        refine ek_if zn_b0 (fun h5 => ?_) (fun h5 => ?_)
        · exact nm_r (nI_1 i) (hkeep (by rw [h5]; simp))
        · refine And.intro (vp_in_nI (by omega) (by decide)) (nm_r (congrArg (upd exA s) zn_bn1) (nm_r (nI_1 i) (ih (i + 1) _ (by omega) (fun x hx => ?_) ?_)))
          · rw [pk_un hx]; exact h1 x hx
          · rw [pk_us, zn_any_s, zn_bt h3, zn_bt h4, zn_bt h5]; simp
theorem zy_291 {post : Int32 → SY → Prop} {cnt : Int32} {m z e : Nat} {act last tkA : Nat → Int32} (hG : zs_G c ev) (hm : m < 19) (hS : zy_S act last m z) (htk : ∀ t, t < zs_q c → tkA t = zn_b (zs_TK c z e t)) (K : ∀ by' bef' ex' : Nat → Int32, (∀ x, x < zs_n c → by' x = -1 ∧ bef' x = nI (zw_L z x) ∧ ex' x = zn_b (zs_exs c z e x)) → ∃ n408 : Nat, wY_step_408 post (nI m) (nI (m * 12)) cnt f_maxStates f_maxTransitions (nI ev) f_maxSituations f_phase (nI (zs_n c)) (nI (zs_q c)) f_found n408 0 (zn_A (c 0)) (zn_A (c 1)) (zn_A (c 2)) (zn_A (c 3)) (zn_A (c 4)) (zn_A (c 5)) (zn_A (c 6)) (zn_A (c 7)) (zn_A (c 8)) (zn_A (c 9)) (zn_A (c 10)) act last a_logs a_logSize a_enabled tkA ex' by' bef' a_here a_next) : ∀ k i (by1 bef ex : Nat → Int32), i + k = zs_n c → (∀ x, x < i → by1 x = -1 ∧ bef x = nI (zw_L z x) ∧ ex x = zn_b (zs_exs c z e x)) → wY_step_291 post (nI m) (nI (m * 12)) cnt f_maxStates f_maxTransitions (nI ev) f_maxSituations f_phase (nI (zs_n c)) (nI (zs_q c)) f_found (k + 1) (nI i) (zn_A (c 0)) (zn_A (c 1)) (zn_A (c 2)) (zn_A (c 3)) (zn_A (c 4)) (zn_A (c 5)) (zn_A (c 6)) (zn_A (c 7)) (zn_A (c 8)) (zn_A (c 9)) (zn_A (c 10)) act last a_logs a_logSize a_enabled tkA ex by1 bef a_here a_next := by
  intro k
  have hn := zs_Gn hG
  induction k with
  | zero =>
    intro i by1 bef ex hi h
    have hi' : i = zs_n c := by omega
    subst hi'
    exact br_t (nI_le (by omega) (by omega)) (K by1 bef ex h)
  | succ k ih =>
    intro i by1 bef ex hi h
    have hin : i < zs_n c := by omega
    have vii : vp_in (nI i) 12 := vp_in_nI (by omega) (by decide)
    refine br_f (nI_ge (by omega) (by omega)) ?_
    rw [nI_add, nI_clamp (show i < 2 ^ 31 by omega), nI_clamp (show m * 12 + i < 2 ^ 31 by omega), (hS i (by omega)).2]
    refine And.intro vii (nm_e (And.intro (vp_in_nI (by omega) (by decide)) (And.intro vii (nm_e (And.intro vii (nm_r (congrArg (upd ex i) zn_bn0) ⟨zs_q c + 1, ?_⟩))))))
    refine zy_335 (z := z) (T := zs_TK c z e) (ex0 := ex) hG hm hin (hS i (by omega)).1 htk (fun ex' h1 h2 => ?_) (zs_q c) 0 _ (Nat.zero_add _) (fun x hx => pk_un hx) ?_
    · refine ih (i + 1) _ _ ex' (by omega) (fun x hx => ?_)
      by_cases e2 : x = i
      · rw [e2, pk_us, pk_us, h2]
        exact ⟨rfl, rfl, rfl⟩
      · rw [pk_un e2, pk_un e2, h1 x e2]
        exact h x (by omega)
    · rw [pk_us]
      show zn_b false = zn_b (z.testBit i && false)
      rw [Bool.and_false]
end ZYB
end
section
section ZYA
/-! the reference's walks: a step -/
variable {c : Nat → Nat → Nat} {ev : Nat}
variable {f_maxStates f_maxTransitions f_maxSituations f_phase f_found : Int32} {a_active a_last a_logs a_logSize a_enabled a_taken a_exited a_by a_before a_here a_next : Nat → Int32}
abbrev zy_J2 : Type := Int32 → zy_J
theorem zy_180 {post : Int32 → SY → Prop} {J120 J128 : zy_J2} {x1 x3 x5 : Int32} {cnt t : Nat} {T : Nat → Bool} {tkA : Nat → Int32} (hG : zs_G c ev) (ht : t < zs_q c) (htk : ∀ u, u < zs_q c → tkA u = zn_b (T u)) (K : J128 (nI (cnt + (!(zn_any (zs_q c) (fun u => T u && zs_CF c (zs_dm c t) (zs_dm c u)))).toNat)) (nI (t + 1)) (zn_A (c 0)) (zn_A (c 1)) (zn_A (c 2)) (zn_A (c 3)) (zn_A (c 4)) (zn_A (c 5)) (zn_A (c 6)) (zn_A (c 7)) (zn_A (c 8)) (zn_A (c 9)) (zn_A (c 10)) a_active a_last a_logs a_logSize a_enabled (upd tkA t (zn_b (!(zn_any (zs_q c) (fun u => T u && zs_CF c (zs_dm c t) (zs_dm c u)))))) a_exited a_by a_before a_here a_next) : ∀ k u, u + k = zs_q c → wY_step_180 post J120 J128 x1 x3 (nI cnt) x5 (nI t) (nI (zs_dm c t)) f_maxStates f_maxTransitions (nI ev) f_maxSituations f_phase (nI (zs_n c)) (nI (zs_q c)) f_found (zn_A (c 0)) (zn_A (c 1)) (zn_A (c 2)) (zn_A (c 3)) (zn_A (c 4)) (zn_A (c 5)) (zn_A (c 6)) (zn_A (c 7)) (zn_A (c 8)) (zn_A (c 9)) (zn_A (c 10)) a_active a_last a_logs a_logSize a_enabled tkA a_exited a_by a_before a_here a_next (k + 1) (zn_b (!(zn_any u (fun u => T u && zs_CF c (zs_dm c t) (zs_dm c u))))) (nI u) := by
  intro k
  have hn := zs_Gn hG
  have hdt := zs_dmlt hG ht
  induction k with
  | zero =>
    intro u hu
    have hu' : u = zs_q c := by omega
    subst hu'
    refine br_t (nI_le (by omega) (by omega)) (And.intro (vp_in_nI (by omega) (by decide)) ?_)
    rw [nI_clamp (show t < 2 ^ 31 by omega), zn_bn]
    refine nm_e (ek_if zn_b0 (fun h => ?_) (fun h => ?_))
    · rw [h] at K ⊢
      exact nm_r (nI_1 t) K
    · rw [zn_bt h] at K ⊢
      exact nm_r (nI_1 cnt) (nm_r (nI_1 t) K)
  | succ k ih =>
    intro u hu
    have huq : u < zs_q c := by omega
    have hdu := zs_dmlt hG huq
    have h := ih (u + 1) (by omega)
    rw [zn_any_s] at h
    have hkeep : (T u && zs_CF c (zs_dm c t) (zs_dm c u)) = false → wY_step_180 post J120 J128 x1 x3 (nI cnt) x5 (nI t) (nI (zs_dm c t)) f_maxStates f_maxTransitions (nI ev) f_maxSituations f_phase (nI (zs_n c)) (nI (zs_q c)) f_found (zn_A (c 0)) (zn_A (c 1)) (zn_A (c 2)) (zn_A (c 3)) (zn_A (c 4)) (zn_A (c 5)) (zn_A (c 6)) (zn_A (c 7)) (zn_A (c 8)) (zn_A (c 9)) (zn_A (c 10)) a_active a_last a_logs a_logSize a_enabled tkA a_exited a_by a_before a_here a_next (k + 1) (zn_b (!(zn_any u (fun u => T u && zs_CF c (zs_dm c t) (zs_dm c u))))) (nI (u + 1)) := by
      intro e
      rw [e, Bool.or_false] at h
      exact h
    have hset : (T u && zs_CF c (zs_dm c t) (zs_dm c u)) = true → wY_step_180 post J120 J128 x1 x3 (nI cnt) x5 (nI t) (nI (zs_dm c t)) f_maxStates f_maxTransitions (nI ev) f_maxSituations f_phase (nI (zs_n c)) (nI (zs_q c)) f_found (zn_A (c 0)) (zn_A (c 1)) (zn_A (c 2)) (zn_A (c 3)) (zn_A (c 4)) (zn_A (c 5)) (zn_A (c 6)) (zn_A (c 7)) (zn_A (c 8)) (zn_A (c 9)) (zn_A (c 10)) a_active a_last a_logs a_logSize a_enabled tkA a_exited a_by a_before a_here a_next (k + 1) 0 (nI (u + 1)) := by
      intro e
      rw [e, Bool.or_true] at h
      exact h
    refine br_f (nI_ge (by omega) (by omega)) ?_
    refine zy_dm hG huq (And.intro (vp_in_nI (by omega) (by decide)) ?_)
    rw [nI_clamp (show u < 2 ^ 31 by omega), htk u huq]
    refine ek_if zn_b0 (fun h1 => ?_) (fun h1 => ?_)
    · exact nm_r (nI_1 u) (hkeep (by rw [h1]; rfl))
    · have h1' := zn_bt h1
      refine ek_if (nI_eq (by omega) (by omega)) (fun h2 => ?_) (fun h2 => ?_)
      · refine nm_r (nI_1 u) (hset ?_)
        unfold zs_CF
        rw [h1', decide_eq_true h2]; rfl
      · refine zy_ab hG (by omega) hdu ?_
        refine ek_if zn_b0 (fun h3 => ?_) (fun h3 => ?_)
        · refine zy_ab hG (by omega) hdt ?_
          refine ek_if zn_b0 (fun h4 => ?_) (fun h4 => ?_)
          · refine nm_r (nI_1 u) (hkeep ?_)
            unfold zs_CF
            rw [decide_eq_false h2, h3, h4]; simp
          · refine nm_r (nI_1 u) (hset ?_)
            unfold zs_CF
            rw [h1', zn_bt h4]; simp
        · refine nm_r (nI_1 u) (hset ?_)
          unfold zs_CF
          rw [h1', zn_bt h3]; simp
/-- u is done when level L has come to t -/
def zy_pr (c : Nat → Nat → Nat) (L t u : Nat) : Bool := decide (L < zc_DP (c 0) (c 5 u)) || (decide (zc_DP (c 0) (c 5 u) = L) && decide (u < t))
theorem zy_pr_s {L t u : Nat} (h : u ≠ t) : zy_pr c L (t + 1) u = zy_pr c L t u := by
  unfold zy_pr
  by_cases e : u < t
  · rw [decide_eq_true e, decide_eq_true (show u < t + 1 by omega)]
  · rw [decide_eq_false e, decide_eq_false (show ¬ u < t + 1 by omega)]
theorem zy_pr_o {L t : Nat} (h : ¬ zc_DP (c 0) (c 5 t) = L) : zy_pr c L (t + 1) t = zy_pr c L t t := by
  unfold zy_pr
  rw [decide_eq_false h, Bool.false_and, Bool.false_and]
theorem zy_pr_0 {L u : Nat} : zy_pr c L 0 u = decide (L + 1 ≤ zc_DP (c 0) (c 5 u)) := by
  unfold zy_pr
  rw [decide_eq_false (Nat.not_lt_zero u), Bool.and_false, Bool.or_false]
  rfl
theorem zy_pr_q {L q u : Nat} (h : u < q) : zy_pr c L q u = decide (L ≤ zc_DP (c 0) (c 5 u)) := by
  unfold zy_pr
  rw [decide_eq_true h, Bool.and_true]
  generalize zc_DP (c 0) (c 5 u) = D
  rcases Nat.lt_trichotomy L D with a | a | a
  · rw [decide_eq_true a, decide_eq_true (show L ≤ D by omega)]; rfl
  · rw [decide_eq_true a.symm, decide_eq_true (show L ≤ D by omega), Bool.or_true]
  · rw [decide_eq_false (show ¬ L < D by omega), decide_eq_false (show ¬ D = L by omega), decide_eq_false (show ¬ L ≤ D by omega)]; rfl
/-- marked so far -/
def zy_MI (c : Nat → Nat → Nat) (z e : Nat) (P : Nat → Bool) (cnt : Nat) (tkA : Nat → Int32) : Prop := cnt = zn_c (zs_q c) (fun u => zs_TK c z e u && P u) ∧ ∀ u, u < zs_q c → tkA u = zn_b (zs_TK c z e u && P u)
theorem zy_MI_cg {z e cnt : Nat} {P P' : Nat → Bool} {tkA : Nat → Int32} (h : zy_MI c z e P cnt tkA) (hP : ∀ u, u < zs_q c → (zs_TK c z e u && P' u) = (zs_TK c z e u && P u)) : zy_MI c z e P' cnt tkA := by
  refine ⟨?_, fun u hu => ?_⟩
  · rw [h.1]
    exact zn_c_cg _ (fun u hu => (hP u hu).symm)
  · rw [h.2 u hu, hP u hu]
theorem zy_free (hG : zs_G c ev) {z e L t : Nat} (ht : t < zs_q c) (hL : zc_DP (c 0) (c 5 t) = L) (hE : zs_EN c z e t = true) : (!(zn_any (zs_q c) (fun u => (zs_TK c z e u && zy_pr c L t u) && zs_CF c (zs_dm c t) (zs_dm c u)))) = zs_TK c z e t := by
  rw [zs_TK_eq hG ht, hE, Bool.true_and]
  congr 1
  apply zn_any_cg
  intro u hu
  have e1 : zy_pr c L t u = zs_BF c u t := by
    unfold zy_pr zs_BF
    rw [hL]
  rw [e1]
  cases zs_BF c u t <;> cases zs_TK c z e u <;> rfl
theorem zy_MI_t (hG : zs_G c ev) {z e L t cnt : Nat} {tkA : Nat → Int32} (ht : t < zs_q c) (hL : zc_DP (c 0) (c 5 t) = L) (h : zy_MI c z e (zy_pr c L t) cnt tkA) : zy_MI c z e (zy_pr c L (t + 1)) (cnt + (zs_TK c z e t).toNat) (upd tkA t (zn_b (zs_TK c z e t))) := by
  have p0 : zy_pr c L t t = false := by
    unfold zy_pr
    rw [hL, decide_eq_false (Nat.lt_irrefl L), decide_eq_false (Nat.lt_irrefl t), Bool.and_false]; rfl
  have p1 : zy_pr c L (t + 1) t = true := by
    unfold zy_pr
    rw [hL, decide_eq_true rfl, decide_eq_true (show t < t + 1 by omega)]; simp
  refine ⟨?_, fun u hu => ?_⟩
  · rw [h.1]
    cases hk : zs_TK c z e t
    · show zn_c _ _ + 0 = _
      rw [Nat.add_zero]
      apply zn_c_cg
      intro u hu
      by_cases e2 : u = t
      · rw [e2, hk]; rfl
      · rw [zy_pr_s e2]
    · show zn_c _ _ + 1 = _
      symm
      refine zn_c_one (t := t) _ ht ?_ ?_ (fun u hu e2 => ?_)
      · show (zs_TK c z e t && zy_pr c L t t) = false
        rw [p0, Bool.and_false]
      · show (zs_TK c z e t && zy_pr c L (t + 1) t) = true
        rw [p1, hk]; rfl
      · show (zs_TK c z e u && zy_pr c L (t + 1) u) = (zs_TK c z e u && zy_pr c L t u)
        rw [zy_pr_s e2]
  · by_cases e2 : u = t
    · rw [e2, pk_us, p1, Bool.and_true]
    · rw [pk_un e2, zy_pr_s e2]; exact h.2 u hu
theorem zy_128 {post : Int32 → SY → Prop} {J120 : zy_J2} {x1 x3 : Int32} {z e L : Nat} {enA : Nat → Int32} (hG : zs_G c ev) (hLb : L < 2 ^ 31) (hen : ∀ u, u < zs_q c → enA u = zn_b (zs_EN c z e u)) (K : ∀ cnt (tk' : Nat → Int32), zy_MI c z e (zy_pr c L (zs_q c)) cnt tk' → J120 (nI cnt) (nI L + (-1)) (zn_A (c 0)) (zn_A (c 1)) (zn_A (c 2)) (zn_A (c 3)) (zn_A (c 4)) (zn_A (c 5)) (zn_A (c 6)) (zn_A (c 7)) (zn_A (c 8)) (zn_A (c 9)) (zn_A (c 10)) a_active a_last a_logs a_logSize enA tk' a_exited a_by a_before a_here a_next) : ∀ k t cnt (tkA : Nat → Int32), t + k = zs_q c → zy_MI c z e (zy_pr c L t) cnt tkA → wY_step_128 post J120 x1 x3 (nI L) f_maxStates f_maxTransitions (nI ev) f_maxSituations f_phase (nI (zs_n c)) (nI (zs_q c)) f_found (k + 1) (nI cnt) (nI t) (zn_A (c 0)) (zn_A (c 1)) (zn_A (c 2)) (zn_A (c 3)) (zn_A (c 4)) (zn_A (c 5)) (zn_A (c 6)) (zn_A (c 7)) (zn_A (c 8)) (zn_A (c 9)) (zn_A (c 10)) a_active a_last a_logs a_logSize enA tkA a_exited a_by a_before a_here a_next := by
  intro k
  have hn := zs_Gn hG
  induction k with
  | zero =>
    intro t cnt tkA ht h
    have ht' : t = zs_q c := by omega
    subst ht'
    exact br_t (nI_le (by omega) (by omega)) (nm_e (K cnt tkA h))
  | succ k ih =>
    intro t cnt tkA ht h
    have htq : t < zs_q c := by omega
    have vit : vp_in (nI t) 16 := vp_in_nI (by omega) (by decide)
    have a1 := (zs_Gt hG htq).1
    have hdp := zs_dp11 hG htq
    refine br_f (nI_ge (by omega) (by omega)) (And.intro vit ?_)
    rw [zn_rd (c 5) (show t < 2 ^ 31 by omega), nI_clamp (show t < 2 ^ 31 by omega), hen t htq]
    refine ek_if zn_b0 (fun h1 => ?_) (fun h1 => ?_)
    · refine nm_r (nI_1 t) (ih (t + 1) cnt tkA (by omega) (zy_MI_cg h (fun u hu => ?_)))
      by_cases e2 : u = t
      · have hk : zs_TK c z e t = false := by rw [zs_TK_eq hG htq, h1]; rfl
        rw [e2, hk]; rfl
      · rw [zy_pr_s e2]
    · refine And.intro vit (zy_dp hG a1 ?_)
      refine ek_if (nI_eq (by omega) hLb) (fun h2 => ?_) (fun h2 => ?_)
      · refine zy_dm hG htq ⟨zs_q c + 1, ?_⟩
        refine zy_180 (T := fun u => zs_TK c z e u && zy_pr c L t u) hG htq h.2 ?_ (zs_q c) 0 (Nat.zero_add _)
        rw [zy_free hG htq h2 (zn_bt h1)]
        exact ih (t + 1) _ _ (by omega) (zy_MI_t hG htq h2 h)
      · refine nm_r (nI_1 t) (ih (t + 1) cnt tkA (by omega) (zy_MI_cg h (fun u hu => ?_)))
        by_cases e2 : u = t
        · rw [e2, zy_pr_o h2]
        · rw [zy_pr_s e2]
theorem zy_120 {post : Int32 → SY → Prop} {x1 x3 : Int32} {z e : Nat} {enA : Nat → Int32} (hG : zs_G c ev) (hen : ∀ u, u < zs_q c → enA u = zn_b (zs_EN c z e u)) (K : ∀ j cnt (tk' : Nat → Int32), zy_MI c z e (fun _ => true) cnt tk' → wY_step_120 post x1 x3 f_maxStates f_maxTransitions (nI ev) f_maxSituations f_phase (nI (zs_n c)) (nI (zs_q c)) f_found (j + 1) (nI cnt) (nI 0 + (-1)) (zn_A (c 0)) (zn_A (c 1)) (zn_A (c 2)) (zn_A (c 3)) (zn_A (c 4)) (zn_A (c 5)) (zn_A (c 6)) (zn_A (c 7)) (zn_A (c 8)) (zn_A (c 9)) (zn_A (c 10)) a_active a_last a_logs a_logSize enA tk' a_exited a_by a_before a_here a_next) : ∀ L cnt (tkA : Nat → Int32), L < 2 ^ 31 → zy_MI c z e (fun u => decide (L ≤ zc_DP (c 0) (c 5 u))) cnt tkA → wY_step_120 post x1 x3 f_maxStates f_maxTransitions (nI ev) f_maxSituations f_phase (nI (zs_n c)) (nI (zs_q c)) f_found (L + 1) (nI cnt) (nI L + (-1)) (zn_A (c 0)) (zn_A (c 1)) (zn_A (c 2)) (zn_A (c 3)) (zn_A (c 4)) (zn_A (c 5)) (zn_A (c 6)) (zn_A (c 7)) (zn_A (c 8)) (zn_A (c 9)) (zn_A (c 10)) a_active a_last a_logs a_logSize enA tkA a_exited a_by a_before a_here a_next := by
  intro L
  induction L with
  | zero =>
    intro cnt tkA _ h
    refine K 0 cnt tkA (zy_MI_cg h (fun u hu => ?_))
    rw [decide_eq_true (Nat.zero_le _)]
  | succ L ih =>
    intro cnt tkA hL h
    rw [pk_m1]
    refine br_f (nI_pos (by omega)) ⟨zs_q c + 1, ?_⟩
    refine zy_128 hG (by omega) hen (fun cnt' tk' h2 => ?_) (zs_q c) 0 cnt tkA (Nat.zero_add _) (zy_MI_cg h (fun u hu => ?_))
    · exact ih cnt' tk' (by omega) (zy_MI_cg h2 (fun u hu => by rw [zy_pr_q hu]))
    · rw [zy_pr_0]
theorem zy_fin {post : Int32 → SY → Prop} {m z e j : Nat} {act last lg ll tkA : Nat → Int32} (hG : zs_G c ev) (hm : m < 19) (hz : zs_W c z) (hS : zy_S act last m z) (htk : ∀ u, u < zs_q c → tkA u = zn_b (zs_TK c z e u)) (K : ∀ act' last' lg' ll' ex' by' bef' : Nat → Int32, zy_S act' last' m (zs_sp c z e) → zl_ok ll' lg' m (zl_LOG c (zs_exm c z e) (zs_tkm c z e) (zs_enm c z e)) → zy_F m act last act' last' → zl_fr m lg ll lg' ll' → post (nI (zn_c (zs_q c) (zs_TK c z e))) (f_maxStates, f_maxTransitions, nI ev, f_maxSituations, f_phase, nI (zs_n c), nI (zs_q c), f_found, zn_A (c 0), zn_A (c 1), zn_A (c 2), zn_A (c 3), zn_A (c 4), zn_A (c 5), zn_A (c 6), zn_A (c 7), zn_A (c 8), zn_A (c 9), zn_A (c 10), act', last', lg', ll', a_enabled, tkA, ex', by', bef', a_here, a_next)) : wY_step_120 post (nI m) (nI (m * 12)) f_maxStates f_maxTransitions (nI ev) f_maxSituations f_phase (nI (zs_n c)) (nI (zs_q c)) f_found (j + 1) (nI (zn_c (zs_q c) (zs_TK c z e))) (nI 0 + (-1)) (zn_A (c 0)) (zn_A (c 1)) (zn_A (c 2)) (zn_A (c 3)) (zn_A (c 4)) (zn_A (c 5)) (zn_A (c 6)) (zn_A (c 7)) (zn_A (c 8)) (zn_A (c 9)) (zn_A (c 10)) act last lg ll a_enabled tkA a_exited a_by a_before a_here a_next := by
  have hn := zs_Gn hG
  have hc16 := zn_c_le (zs_TK c z e) (zs_q c)
  refine br_t (by decide) (And.intro (vp_in_nI hm (by decide)) ?_)
  rw [nI_clamp (show m < 2 ^ 31 by omega)]
  refine nm_e (ek_if (zn_e0 (by omega)) (fun h0 => ?_) (fun h0 => ?_))
  · have hT := zn_c_0' (zs_q c) h0
    have a := zs_sp_none hG (e := e) hz hT
    rw [h0, a.1, a.2.1, a.2.2.1, a.2.2.2, zl_LOG_0] at K
    exact K act last lg _ a_exited a_by a_before hS zl_ok_0 zy_F_rf zl_fr_0
  · refine ⟨zs_n c + 1, zy_291 (z := z) (e := e) hG hm hS htk (fun by' bef' ex' h1 => ⟨zs_n c + 1, ?_⟩) (zs_n c) 0 a_by a_before a_exited (Nat.zero_add _) (fun x hx => absurd hx (Nat.not_lt_zero x))⟩
    refine zy_408 (z := z) (E := zs_exs c z e) (act0 := act) hG hm (fun s hs => (h1 s hs).2.2) (fun act' h2 hF => ⟨zs_q c + 1, ?_⟩) (zs_n c) 0 act (Nat.zero_add _) (fun x hx => ?_) zy_F_rf
    · refine zy_446 (z := z) (T := zs_TK c z e) (A1 := fun x => z.testBit x && !(decide (x < zs_n c) && zs_exs c z e x)) (act0 := act) (last0 := last) hG hm hz.1 htk (fun x hx => (h1 x hx).2.1) (fun by2 act2 last2 h3 => ⟨zs_n c + 1, ?_⟩) (zs_q c) 0 by' act' last (Nat.zero_add _) ?_
      · refine zy_546 (ex := zs_exm c z e) (tk := zs_tkm c z e) (en := zs_enm c z e) hG hm (fun x hx => ?_) (fun t ht => ?_) (fun s hs => ?_) (zs_n c) [] lg _ (Nat.le_refl _) zl_ok_0 (fun lg' ll' h4 h5 => ?_)
        · have h6 := h3.1 x hx
          constructor
          · intro h7
            cases hb : (zs_enm c z e).testBit x
            · rfl
            · obtain ⟨u, hu, e2⟩ := h6.2 hb
              rw [e2] at h7
              exact absurd h7 (nI_pos (by omega))
          · intro hb
            rw [h6.1 hb]; decide
        · rw [htk t ht]
          unfold zs_tkm
          rw [zn_mk_in ht]
        · rw [(h1 s hs).2.2]
          unfold zs_exm
          rw [zn_mk_in hs]
        · refine K act2 last2 lg' ll' ex' by2 bef' ?_ h4 h3.2.2 (zl_fr_tr zl_fr_0 h5)
          have aI := zs_tL_I hG (T := zs_TK c z e) hz.1 (zs_q c) (Nat.le_refl _)
          refine zy_S_ra aI.2.1 (zs_n12 hG (zs_nact_lt hG hz)) (fun x hx => ⟨?_, (h3.2.1 x hx).2⟩)
          rw [(h3.2.1 x hx).1, Nat.testBit_or, zw_an_tb (by have := Nat.mod_lt z (show 0 < 4096 by decide); omega), zw_a_in z hx]
          unfold zs_exm
          rw [zn_mk_tb]
          rfl
      · refine ⟨fun x hx => ⟨fun _ => (h1 x hx).1, fun hb => ?_⟩, fun x hx => ⟨?_, (hS x hx).2⟩, hF⟩
        · exfalso
          have : (0 : Nat).testBit x = true := hb
          rw [Nat.zero_testBit] at this
          exact absurd this (by decide)
        · rw [h2 x hx]
          show _ = zn_b (_ || (0 : Nat).testBit x)
          rw [Nat.zero_testBit, Bool.or_false]
    · rw [(hS x hx).1, decide_eq_false (Nat.not_lt_zero x), Bool.false_and]
      simp
theorem zy_98 {post : Int32 → SY → Prop} {J : zy_J} {x1 x2 x3 z0 : Int32} {t : Nat} {b : Bool} {enA tkA : Nat → Int32} (ht : t < 16) (hz : z0 = zn_b b) (K : J (nI (t + 1)) (zn_A (c 0)) (zn_A (c 1)) (zn_A (c 2)) (zn_A (c 3)) (zn_A (c 4)) (zn_A (c 5)) (zn_A (c 6)) (zn_A (c 7)) (zn_A (c 8)) (zn_A (c 9)) (zn_A (c 10)) a_active a_last a_logs a_logSize (upd enA t (zn_b b)) (upd tkA t (zn_b false)) a_exited a_by a_before a_here a_next) : wY_step_98 post J x1 x2 x3 (nI t) z0 (nI t) f_maxStates f_maxTransitions (nI ev) f_maxSituations f_phase (nI (zs_n c)) (nI (zs_q c)) f_found (zn_A (c 0)) (zn_A (c 1)) (zn_A (c 2)) (zn_A (c 3)) (zn_A (c 4)) (zn_A (c 5)) (zn_A (c 6)) (zn_A (c 7)) (zn_A (c 8)) (zn_A (c 9)) (zn_A (c 10)) a_active a_last a_logs a_logSize enA tkA a_exited a_by a_before a_here a_next := by
  subst hz
  have vit : vp_in (nI t) 16 := vp_in_nI ht (by decide)
  unfold wY_step_98
  rw [zn_bn, zn_bn0, nI_clamp (show t < 2 ^ 31 by omega)]
  exact And.intro vit (nm_e (And.intro vit (nm_e (nm_r (nI_1 t) K))))
theorem zy_8 {post : Int32 → SY → Prop} {m z e : Nat} {act last : Nat → Int32} (hG : zs_G c ev) (hm : m < 19) (he : e < 2 ^ 31) (hS : zy_S act last m z) (K : ∀ en' tk' : Nat → Int32, (∀ u, u < zs_q c → en' u = zn_b (zs_EN c z e u) ∧ tk' u = zn_b false) → ∃ n120 : Nat, wY_step_120 post (nI m) (nI (m * 12)) f_maxStates f_maxTransitions (nI ev) f_maxSituations f_phase (nI (zs_n c)) (nI (zs_q c)) f_found n120 0 12 (zn_A (c 0)) (zn_A (c 1)) (zn_A (c 2)) (zn_A (c 3)) (zn_A (c 4)) (zn_A (c 5)) (zn_A (c 6)) (zn_A (c 7)) (zn_A (c 8)) (zn_A (c 9)) (zn_A (c 10)) act last a_logs a_logSize en' tk' a_exited a_by a_before a_here a_next) : ∀ k t (enA tkA : Nat → Int32), t + k = zs_q c → (∀ u, u < t → enA u = zn_b (zs_EN c z e u) ∧ tkA u = zn_b false) → wY_step_8 post (nI m) (nI e) (nI (m * 12)) f_maxStates f_maxTransitions (nI ev) f_maxSituations f_phase (nI (zs_n c)) (nI (zs_q c)) f_found (k + 1) (nI t) (zn_A (c 0)) (zn_A (c 1)) (zn_A (c 2)) (zn_A (c 3)) (zn_A (c 4)) (zn_A (c 5)) (zn_A (c 6)) (zn_A (c 7)) (zn_A (c 8)) (zn_A (c 9)) (zn_A (c 10)) act last a_logs a_logSize enA tkA a_exited a_by a_before a_here a_next := by
  intro k
  have hn := zs_Gn hG
  induction k with
  | zero =>
    intro t enA tkA ht h
    have ht' : t = zs_q c := by omega
    subst ht'
    exact br_t (nI_le (by omega) (by omega)) (K enA tkA h)
  | succ k ih =>
    intro t enA tkA ht h
    have htq : t < zs_q c := by omega
    have ht16 : t < 16 := by omega
    have vit : vp_in (nI t) 16 := vp_in_nI ht16 (by decide)
    obtain ⟨a1, a2, a3, a4, a5, a6⟩ := zs_Gt hG htq
    have hJ : wY_step_8 post (nI m) (nI e) (nI (m * 12)) f_maxStates f_maxTransitions (nI ev) f_maxSituations f_phase (nI (zs_n c)) (nI (zs_q c)) f_found (k + 1) (nI (t + 1)) (zn_A (c 0)) (zn_A (c 1)) (zn_A (c 2)) (zn_A (c 3)) (zn_A (c 4)) (zn_A (c 5)) (zn_A (c 6)) (zn_A (c 7)) (zn_A (c 8)) (zn_A (c 9)) (zn_A (c 10)) act last a_logs a_logSize (upd enA t (zn_b (zs_EN c z e t))) (upd tkA t (zn_b false)) a_exited a_by a_before a_here a_next := by
      refine ih (t + 1) _ _ (by omega) (fun u hu => ?_)
      by_cases e2 : u = t
      · rw [e2, pk_us, pk_us]; exact ⟨rfl, rfl⟩
      · rw [pk_un e2, pk_un e2]; exact h u (by omega)
    have hF : zs_EN c z e t = false → wY_step_97 post (wY_step_8 post (nI m) (nI e) (nI (m * 12)) f_maxStates f_maxTransitions (nI ev) f_maxSituations f_phase (nI (zs_n c)) (nI (zs_q c)) f_found (k + 1)) (nI m) (nI e) (nI (m * 12)) (nI t) (nI t) f_maxStates f_maxTransitions (nI ev) f_maxSituations f_phase (nI (zs_n c)) (nI (zs_q c)) f_found (zn_A (c 0)) (zn_A (c 1)) (zn_A (c 2)) (zn_A (c 3)) (zn_A (c 4)) (zn_A (c 5)) (zn_A (c 6)) (zn_A (c 7)) (zn_A (c 8)) (zn_A (c 9)) (zn_A (c 10)) act last a_logs a_logSize enA tkA a_exited a_by a_before a_here a_next := by
      intro hE
      unfold wY_step_97
      exact zy_98 ht16 (by rw [hE]; rfl) hJ
    have hT : zs_EN c z e t = true → wY_step_93 post (wY_step_8 post (nI m) (nI e) (nI (m * 12)) f_maxStates f_maxTransitions (nI ev) f_maxSituations f_phase (nI (zs_n c)) (nI (zs_q c)) f_found (k + 1)) (nI m) (nI e) (nI (m * 12)) (nI t) (nI t) f_maxStates f_maxTransitions (nI ev) f_maxSituations f_phase (nI (zs_n c)) (nI (zs_q c)) f_found (zn_A (c 0)) (zn_A (c 1)) (zn_A (c 2)) (zn_A (c 3)) (zn_A (c 4)) (zn_A (c 5)) (zn_A (c 6)) (zn_A (c 7)) (zn_A (c 8)) (zn_A (c 9)) (zn_A (c 10)) act last a_logs a_logSize enA tkA a_exited a_by a_before a_here a_next := by
      intro hE
      unfold wY_step_93
      exact zy_98 ht16 (by rw [hE]; rfl) hJ
    refine br_f (nI_ge (by omega) (by omega)) (And.intro vit (nm_r (zn_rd (c 9) (by omega)) (And.intro vit ?_)))
    refine ek_if (zn_req (by omega) (zs_Gb hG 6 t) he) (fun h1 => ?_) (fun h1 => ?_)
    · refine And.intro vit ?_
      rw [zn_rd (c 5) (show t < 2 ^ 31 by omega), nI_add, nI_clamp (show m * 12 + c 5 t < 2 ^ 31 by omega), (hS (c 5 t) (by omega)).1]
      refine And.intro (vp_in_nI (by omega) (by decide)) ?_
      refine ek_if zn_b0 (fun h2 => ?_) (fun h2 => ?_)
      · refine hF ?_
        unfold zs_EN
        rw [h2]; simp
      · refine ek_if (zn_e0 (zs_Gb hG 9 t)) (fun h3 => ?_) (fun h3 => ?_)
        · refine hT ?_
          unfold zs_EN
          rw [decide_eq_true h1, zn_bt h2, decide_eq_true h3]; rfl
        · have e1 : nI (m * 12) + nI (c 9 t) / 2 - 1 = nI (m * 12 + (c 9 t / 2 - 1)) := by
            rw [show (2 : Int32) = nI 2 from rfl, pk_div (zs_Gb hG 9 t) (by decide) (by decide), nI_add]
            have := pk_sub (a := m * 12 + c 9 t / 2) (b := 1) (by omega)
            rw [show m * 12 + (c 9 t / 2 - 1) = m * 12 + c 9 t / 2 - 1 from by omega]
            exact this
          have e2 : nI (c 9 t) - nI (c 9 t) / 2 * 2 = nI (c 9 t % 2) := pk_rem (d := 2) (zs_Gb hG 9 t) (by decide) (by decide)
          have hE : zs_EN c z e t = (z.testBit (c 9 t / 2 - 1) == decide (c 9 t % 2 = 0)) := by
            unfold zs_EN
            rw [decide_eq_true h1, zn_bt h2, decide_eq_false h3]; rfl
          refine And.intro (by decide) ?_
          rw [e1, e2, nI_clamp (show m * 12 + (c 9 t / 2 - 1) < 2 ^ 31 by omega), (hS (c 9 t / 2 - 1) (by omega)).1]
          refine And.intro (vp_in_nI (by omega) (by decide)) (And.intro (by decide) ?_)
          refine ek_if (zn_e0 (by omega)) (fun h4 => ?_) (fun h4 => ?_)
          · rw [decide_eq_true h4] at hE
            refine ek_if zn_b1 (fun h5 => ?_) (fun h5 => ?_)
            · exact hT (by rw [hE, h5]; rfl)
            · exact hF (by rw [hE, zn_bf h5]; rfl)
          · rw [decide_eq_false h4] at hE
            refine ek_if zn_b0 (fun h5 => ?_) (fun h5 => ?_)
            · exact hT (by rw [hE, h5]; rfl)
            · exact hF (by rw [hE, zn_bt h5]; rfl)
    · refine hF ?_
      unfold zs_EN
      rw [decide_eq_false h1]; rfl
theorem zy_step {post : Int32 → SY → Prop} {m z e : Nat} {act last lg ll : Nat → Int32} (hG : zs_G c ev) (hm : m < 19) (he : e < 2 ^ 31) (hz : zs_W c z) (hS : zy_S act last m z) (K : ∀ act' last' lg' ll' en' tk' ex' by' bef' : Nat → Int32, zy_S act' last' m (zs_sp c z e) → zl_ok ll' lg' m (zl_LOG c (zs_exm c z e) (zs_tkm c z e) (zs_enm c z e)) → zy_F m act last act' last' → zl_fr m lg ll lg' ll' → (∀ u, u < zs_q c → tk' u = zn_b (zs_TK c z e u)) → post (nI (zn_c (zs_q c) (zs_TK c z e))) (f_maxStates, f_maxTransitions, nI ev, f_maxSituations, f_phase, nI (zs_n c), nI (zs_q c), f_found, zn_A (c 0), zn_A (c 1), zn_A (c 2), zn_A (c 3), zn_A (c 4), zn_A (c 5), zn_A (c 6), zn_A (c 7), zn_A (c 8), zn_A (c 9), zn_A (c 10), act', last', lg', ll', en', tk', ex', by', bef', a_here, a_next)) : wpY_step post (f_maxStates, f_maxTransitions, nI ev, f_maxSituations, f_phase, nI (zs_n c), nI (zs_q c), f_found, zn_A (c 0), zn_A (c 1), zn_A (c 2), zn_A (c 3), zn_A (c 4), zn_A (c 5), zn_A (c 6), zn_A (c 7), zn_A (c 8), zn_A (c 9), zn_A (c 10), act, last, lg, ll, a_enabled, a_taken, a_exited, a_by, a_before, a_here, a_next) (nI m) (nI e) := by
  have hn := zs_Gn hG
  have e12 : nI m * 12 = nI (m * 12) := pk_mul m 12
  refine nm_r e12 ⟨zs_q c + 1, ?_⟩
  refine zy_8 (z := z) hG hm he hS (fun en' tk' h => ⟨13 + 1, ?_⟩) (zs_q c) 0 a_enabled a_taken (Nat.zero_add _) (fun x hx => absurd hx (Nat.not_lt_zero x))
  have h0 : zn_c (zs_q c) (fun u => zs_TK c z e u && decide (13 ≤ zc_DP (c 0) (c 5 u))) = 0 := zn_c_0 _ (fun u hu => by
    have := zs_dp11 hG hu
    show (zs_TK c z e u && decide (13 ≤ zc_DP (c 0) (c 5 u))) = false
    rw [decide_eq_false (by omega), Bool.and_false])
  have hr := zy_120 (post := post) (x1 := nI m) (x3 := nI (m * 12)) (z := z) (e := e) (enA := en') (c := c) (ev := ev) (f_maxStates := f_maxStates) (f_maxTransitions := f_maxTransitions) (f_maxSituations := f_maxSituations) (f_phase := f_phase) (f_found := f_found) (a_active := act) (a_last := last) (a_logs := lg) (a_logSize := ll) (a_exited := a_exited) (a_by := a_by) (a_before := a_before) (a_here := a_here) (a_next := a_next) hG (fun u hu => (h u hu).1) (fun j cnt tk2 h2 => by
    have e3 : cnt = zn_c (zs_q c) (zs_TK c z e) := by
      rw [h2.1]
      exact zn_c_cg _ (fun u _ => Bool.and_true _)
    have h3 : ∀ u, u < zs_q c → tk2 u = zn_b (zs_TK c z e u) := fun u hu => by rw [h2.2 u hu, Bool.and_true]
    rw [e3]
    exact zy_fin hG hm hz hS h3 (fun act' last' lg' ll' ex' by' bef' k1 k2 k3 k4 => K act' last' lg' ll' en' tk2 ex' by' bef' k1 k2 k3 k4 h3)) 13 0 tk' (by decide) ⟨h0.symm, fun u hu => by
      have := zs_dp11 hG hu
      rw [(h u hu).2]
      show zn_b false = zn_b (zs_TK c z e u && decide (13 ≤ zc_DP (c 0) (c 5 u)))
      rw [decide_eq_false (by omega), Bool.and_false]⟩
  exact hr
end ZYA
end
section
section ZYC
/-! the reference's walks: copy, same, after -/
variable {c : Nat → Nat → Nat} {ev : Nat}
variable {f_maxStates f_maxTransitions f_maxSituations f_phase f_found : Int32} {a_active a_last a_logs a_logSize a_enabled a_taken a_exited a_by a_before a_here a_next : Nat → Int32}
theorem zy_i12 (m i : Nat) : nI m * 12 + nI i = nI (m * 12 + i) := by
  show nI m * nI 12 + nI i = _
  rw [pk_mul, nI_add]
theorem zy_cp2 {post : SY → Prop} {a b z : Nat} {act0 last0 : Nat → Int32} (ha : a < 19) (hb : b < 19) (hab : a ≠ b) (hS : zy_S act0 last0 a z) (K : ∀ act' last' : Nat → Int32, zy_S act' last' b z → zy_F b act0 last0 act' last' → post (f_maxStates, f_maxTransitions, nI ev, f_maxSituations, f_phase, nI (zs_n c), nI (zs_q c), f_found, zn_A (c 0), zn_A (c 1), zn_A (c 2), zn_A (c 3), zn_A (c 4), zn_A (c 5), zn_A (c 6), zn_A (c 7), zn_A (c 8), zn_A (c 9), zn_A (c 10), act', last', a_logs, a_logSize, a_enabled, a_taken, a_exited, a_by, a_before, a_here, a_next)) : ∀ k i (act last : Nat → Int32), i + k = 12 → zy_F b act0 last0 act last → (∀ x, x < i → act (b * 12 + x) = zn_b (z.testBit x) ∧ last (b * 12 + x) = nI (zw_L z x)) → wY_copy_2 post (nI a) (nI b) f_maxStates f_maxTransitions (nI ev) f_maxSituations f_phase (nI (zs_n c)) (nI (zs_q c)) f_found (k + 1) (nI i) (zn_A (c 0)) (zn_A (c 1)) (zn_A (c 2)) (zn_A (c 3)) (zn_A (c 4)) (zn_A (c 5)) (zn_A (c 6)) (zn_A (c 7)) (zn_A (c 8)) (zn_A (c 9)) (zn_A (c 10)) act last a_logs a_logSize a_enabled a_taken a_exited a_by a_before a_here a_next := by
  intro k
  induction k with
  | zero =>
    intro i act last hi hF h
    have hi' : i = 12 := by omega
    subst hi'
    exact br_t (by decide) (K act last h hF)
  | succ k ih =>
    intro i act last hi hF h
    have f1 := hF (a * 12 + i) (by omega)
    have s1 := hS i (by omega)
    have va : vp_in (nI (a * 12 + i)) 228 := vp_in_nI (by omega) (by decide)
    have vb : vp_in (nI (b * 12 + i)) 228 := vp_in_nI (by omega) (by decide)
    refine br_f (nI_ge (b := 12) (by omega) (by decide)) ?_
    rw [zy_i12, zy_i12, nI_clamp (show a * 12 + i < 2 ^ 31 by omega), nI_clamp (show b * 12 + i < 2 ^ 31 by omega), f1.1, f1.2, s1.1, s1.2, zn_bn]
    refine And.intro va (And.intro vb (nm_e (And.intro va (And.intro vb (nm_e (nm_r (nI_1 i) ?_))))))
    refine ih (i + 1) _ _ (by omega) (zy_F_l (zy_F_a hF (by omega)) (by omega)) (fun x hx => ?_)
    by_cases e : x = i
    · rw [e, pk_us, pk_us]; exact ⟨rfl, rfl⟩
    · rw [pk_un (by omega), pk_un (by omega)]; exact h x (by omega)
theorem zy_copy {post : SY → Prop} {a b z : Nat} {act last : Nat → Int32} (ha : a < 19) (hb : b < 19) (hab : a ≠ b) (hS : zy_S act last a z) (K : ∀ act' last' : Nat → Int32, zy_S act' last' b z → zy_F b act last act' last' → post (f_maxStates, f_maxTransitions, nI ev, f_maxSituations, f_phase, nI (zs_n c), nI (zs_q c), f_found, zn_A (c 0), zn_A (c 1), zn_A (c 2), zn_A (c 3), zn_A (c 4), zn_A (c 5), zn_A (c 6), zn_A (c 7), zn_A (c 8), zn_A (c 9), zn_A (c 10), act', last', a_logs, a_logSize, a_enabled, a_taken, a_exited, a_by, a_before, a_here, a_next)) : wpY_copy post (f_maxStates, f_maxTransitions, nI ev, f_maxSituations, f_phase, nI (zs_n c), nI (zs_q c), f_found, zn_A (c 0), zn_A (c 1), zn_A (c 2), zn_A (c 3), zn_A (c 4), zn_A (c 5), zn_A (c 6), zn_A (c 7), zn_A (c 8), zn_A (c 9), zn_A (c 10), act, last, a_logs, a_logSize, a_enabled, a_taken, a_exited, a_by, a_before, a_here, a_next) (nI a) (nI b) :=
  ⟨13, zy_cp2 ha hb hab hS K 12 0 act last rfl zy_F_rf (fun x hx => absurd hx (Nat.not_lt_zero x))⟩
theorem zy_sm2 {post : Int32 → Prop} {a b z z' : Nat} {act last : Nat → Int32} (ha : a < 19) (hb : b < 19) (hz : z < 2 ^ 60) (hz' : z' < 2 ^ 60) (hS : zy_S act last a z) (hS' : zy_S act last b z') (hp : post (zn_b (decide (z = z')))) : ∀ k i, i + k = 12 → (∀ x, x < i → z.testBit x = z'.testBit x ∧ zw_L z x = zw_L z' x) → wY_same_2 post (nI a) (nI b) f_maxStates f_maxTransitions (nI ev) f_maxSituations f_phase (nI (zs_n c)) (nI (zs_q c)) f_found (zn_A (c 0)) (zn_A (c 1)) (zn_A (c 2)) (zn_A (c 3)) (zn_A (c 4)) (zn_A (c 5)) (zn_A (c 6)) (zn_A (c 7)) (zn_A (c 8)) (zn_A (c 9)) (zn_A (c 10)) act last a_logs a_logSize a_enabled a_taken a_exited a_by a_before a_here a_next (k + 1) (nI i) := by
  intro k
  induction k with
  | zero =>
    intro i hi h
    have hi' : i = 12 := by omega
    subst hi'
    rw [decide_eq_true (zw_z_ext hz hz' h)] at hp
    exact br_t (by decide) hp
  | succ k ih =>
    intro i hi h
    have s1 := hS i (by omega)
    have s2 := hS' i (by omega)
    have l1 := zw_L_lt z i
    have l2 := zw_L_lt z' i
    have va : vp_in (nI (a * 12 + i)) 228 := vp_in_nI (by omega) (by decide)
    have vb : vp_in (nI (b * 12 + i)) 228 := vp_in_nI (by omega) (by decide)
    refine br_f (nI_ge (b := 12) (by omega) (by decide)) ?_
    rw [zy_i12, zy_i12, nI_clamp (show a * 12 + i < 2 ^ 31 by omega), nI_clamp (show b * 12 + i < 2 ^ 31 by omega), s1.1, s1.2, s2.1, s2.2]
    refine And.intro va (And.intro vb (ek_if zn_bI (fun h1 => ?_) (fun h1 => ?_)))
    · refine And.intro va (And.intro vb (ek_if (nI_eq (by omega) (by omega)) (fun h2 => ?_) (fun h2 => ?_)))
      · refine nm_r (nI_1 i) (ih (i + 1) (by omega) (fun x hx => ?_))
        by_cases e : x = i
        · rw [e]; exact ⟨h1, h2⟩
        · exact h x (by omega)
      · rw [decide_eq_false (fun e => h2 (by rw [e]))] at hp
        exact hp
    · rw [decide_eq_false (fun e => h1 (by rw [e]))] at hp
      exact hp
theorem zy_same {post : Int32 → Prop} {a b z z' : Nat} {act last : Nat → Int32} (ha : a < 19) (hb : b < 19) (hz : z < 2 ^ 60) (hz' : z' < 2 ^ 60) (hS : zy_S act last a z) (hS' : zy_S act last b z') (hp : post (zn_b (decide (z = z')))) : wpY_same post (f_maxStates, f_maxTransitions, nI ev, f_maxSituations, f_phase, nI (zs_n c), nI (zs_q c), f_found, zn_A (c 0), zn_A (c 1), zn_A (c 2), zn_A (c 3), zn_A (c 4), zn_A (c 5), zn_A (c 6), zn_A (c 7), zn_A (c 8), zn_A (c 9), zn_A (c 10), act, last, a_logs, a_logSize, a_enabled, a_taken, a_exited, a_by, a_before, a_here, a_next) (nI a) (nI b) :=
  ⟨13, zy_sm2 ha hb hz hz' hS hS' hp 12 0 rfl (fun x hx => absurd hx (Nat.not_lt_zero x))⟩
/-- the place of z among the first k, or k -/
def zb_fp (k : Nat) (sit : Nat → Nat) (z : Nat) : Nat := zn_fi (fun j => decide (sit j = z)) k k 0
theorem zb_fp_sp (k : Nat) (sit : Nat → Nat) (z : Nat) : (zb_fp k sit z < k ∧ sit (zb_fp k sit z) = z) ∨ (zb_fp k sit z = k ∧ ∀ j, j < k → sit j ≠ z) := by
  rcases zn_fi_sp (f := fun j => decide (sit j = z)) (d := k) k 0 with ⟨j, h1, h2, h3, h4, h5⟩ | ⟨h1, h2⟩
  · left
    have e : zb_fp k sit z = j := h4
    rw [e]
    exact ⟨by omega, decide_eq_true_iff.mp h3⟩
  · right
    exact ⟨h1, fun j hj => of_decide_eq_false (h2 j (by omega) (by omega))⟩
def zy_r (p k : Nat) : Int32 := if p = k then -1 else nI p
theorem zy_af20 {post : Int32 → SY → Prop} {k z : Nat} {sit : Nat → Nat} {act last : Nat → Int32} (hk : k ≤ 16) (hz : z < 2 ^ 60) (hsit : ∀ j, j < k → sit j < 2 ^ 60 ∧ zy_S act last (2 + j) (sit j)) (hS : zy_S act last 18 z) : ∀ r j, j + r = k → post (zy_r (zn_fi (fun j => decide (sit j = z)) k r j) k) (f_maxStates, f_maxTransitions, nI ev, f_maxSituations, f_phase, nI (zs_n c), nI (zs_q c), f_found, zn_A (c 0), zn_A (c 1), zn_A (c 2), zn_A (c 3), zn_A (c 4), zn_A (c 5), zn_A (c 6), zn_A (c 7), zn_A (c 8), zn_A (c 9), zn_A (c 10), act, last, a_logs, a_logSize, a_enabled, a_taken, a_exited, a_by, a_before, a_here, a_next) → wY_after_20 post (nI k) f_maxStates f_maxTransitions (nI ev) f_maxSituations f_phase (nI (zs_n c)) (nI (zs_q c)) f_found (zn_A (c 0)) (zn_A (c 1)) (zn_A (c 2)) (zn_A (c 3)) (zn_A (c 4)) (zn_A (c 5)) (zn_A (c 6)) (zn_A (c 7)) (zn_A (c 8)) (zn_A (c 9)) (zn_A (c 10)) act last a_logs a_logSize a_enabled a_taken a_exited a_by a_before a_here a_next (r + 1) (nI j) := by
  intro r
  induction r with
  | zero =>
    intro j hj hp
    have e : zy_r (zn_fi (fun j => decide (sit j = z)) k 0 j) k = -1 := if_pos rfl
    rw [e] at hp
    exact br_t (nI_le (by omega) (by omega)) hp
  | succ r ih =>
    intro j hj hp
    have s := hsit j (by omega)
    refine br_f (nI_ge (by omega) (by omega)) ?_
    have e2 : (2 : Int32) + nI j = nI (2 + j) := nI_add 2 j
    rw [e2]
    refine zy_same (b := 18) (by omega) (by decide) s.1 hz s.2 hS ?_
    refine ek_if zn_b0 (fun h => ?_) (fun h => ?_)
    · rw [zn_fi_n h] at hp
      exact nm_r (nI_1 j) (ih (j + 1) (by omega) hp)
    · rw [zn_fi_t (zn_bt h)] at hp
      have e : zy_r j k = nI j := if_neg (by omega)
      rw [e] at hp
      exact hp
theorem zy_after {post : Int32 → SY → Prop} {k i e : Nat} {sit : Nat → Nat} {act last lg ll : Nat → Int32} (hG : zs_G c ev) (hk : k ≤ 16) (hi : i < k) (he : e < 2 ^ 31) (hsit : ∀ j, j < k → zs_W c (sit j) ∧ zy_S act last (2 + j) (sit j)) (K : ∀ act' last' lg' ll' en' tk' ex' by' bef' : Nat → Int32, zy_S act' last' 18 (zs_sp c (sit i) e) → zy_F 18 act last act' last' → zl_fr 18 lg ll lg' ll' → (∀ u, u < zs_q c → tk' u = zn_b (zs_TK c (sit i) e u)) → post (zy_r (zb_fp k sit (zs_sp c (sit i) e)) k) (f_maxStates, f_maxTransitions, nI ev, f_maxSituations, f_phase, nI (zs_n c), nI (zs_q c), f_found, zn_A (c 0), zn_A (c 1), zn_A (c 2), zn_A (c 3), zn_A (c 4), zn_A (c 5), zn_A (c 6), zn_A (c 7), zn_A (c 8), zn_A (c 9), zn_A (c 10), act', last', lg', ll', en', tk', ex', by', bef', a_here, a_next)) : wpY_after post (f_maxStates, f_maxTransitions, nI ev, f_maxSituations, f_phase, nI (zs_n c), nI (zs_q c), f_found, zn_A (c 0), zn_A (c 1), zn_A (c 2), zn_A (c 3), zn_A (c 4), zn_A (c 5), zn_A (c 6), zn_A (c 7), zn_A (c 8), zn_A (c 9), zn_A (c 10), act, last, lg, ll, a_enabled, a_taken, a_exited, a_by, a_before, a_here, a_next) (nI i) (nI e) (nI k) := by
  have e2 : (2 : Int32) + nI i = nI (2 + i) := nI_add 2 i
  have si := hsit i hi
  unfold wpY_after
  dsimp only
  rw [e2]
  refine zy_copy (b := 18) (by omega) (by decide) (by omega) si.2 (fun act1 last1 h1 h2 => ?_)
  refine zy_step (m := 18) hG (by decide) he si.1 h1 (fun act' last' lg' ll' en' tk' ex' by' bef' k1 k2 k3 k4 k5 => ⟨k + 1, ?_⟩)
  have hF := zy_F_tr h2 k3
  refine zy_af20 (sit := sit) hk (zs_W_sp hG si.1).1.1 (fun j hj => ⟨(hsit j hj).1.1.1, zy_S_F hF (by omega) (hsit j hj).2⟩) k1 k 0 (Nat.zero_add _) ?_
  exact K act' last' lg' ll' en' tk' ex' by' bef' k1 hF k4 k5
end ZYC
end
section
section ZBF
/-! the reachable situations in breadth-first order: count, list, distances, table of next places -/
abbrev zb_St : Type := Nat × (Nat → Nat) × (Nat → Nat) × (Nat → Nat)
def zb_s (c : Nat → Nat → Nat) (mx i e : Nat) (w : zb_St) : Option zb_St :=
  if zb_fp w.1 w.2.1 (zs_sp c (w.2.1 i) e) = w.1 then
    (if w.1 < mx then some (w.1 + 1, zn_u w.2.1 w.1 (zs_sp c (w.2.1 i) e), zn_u w.2.2.1 w.1 (w.2.2.1 i + 1), zn_u w.2.2.2 (i * 4 + e) w.1) else none)
  else some (w.1, w.2.1, w.2.2.1, zn_u w.2.2.2 (i * 4 + e) (zb_fp w.1 w.2.1 (zs_sp c (w.2.1 i) e)))
def zb_E (c : Nat → Nat → Nat) (mx i : Nat) : Nat → Nat → zb_St → Option zb_St
  | 0, _, w => some w
  | r + 1, e, w => (zb_s c mx i e w).bind (fun w' => zb_E c mx i r (e + 1) w')
def zb_I (c : Nat → Nat → Nat) (mx ev : Nat) : Nat → Nat → zb_St → Option zb_St
  | 0, _, w => some w
  | r + 1, i, w => if w.1 ≤ i then some w else (zb_E c mx i ev 0 w).bind (fun w' => zb_I c mx ev r (i + 1) w')
def zb_0 (c : Nat → Nat → Nat) : zb_St := (1, fun _ => zs_z0 c, fun _ => 0, fun _ => 0)
theorem zb_E_s {c : Nat → Nat → Nat} {mx i r e : Nat} {w : zb_St} : zb_E c mx i (r + 1) e w = (zb_s c mx i e w).bind (fun w' => zb_E c mx i r (e + 1) w') := rfl
theorem zb_I_s {c : Nat → Nat → Nat} {mx ev r i : Nat} {w : zb_St} (h : ¬ w.1 ≤ i) : zb_I c mx ev (r + 1) i w = (zb_E c mx i ev 0 w).bind (fun w' => zb_I c mx ev r (i + 1) w') := if_neg h
theorem zb_I_e {c : Nat → Nat → Nat} {mx ev r i : Nat} {w : zb_St} (h : w.1 ≤ i) : zb_I c mx ev r i w = some w := by
  cases r with
  | zero => rfl
  | succ r => exact if_pos h
/-- what holds of the list and the table so far: (i, e) is the next to be tried -/
def zb_V (c : Nat → Nat → Nat) (ev mx i e : Nat) (w : zb_St) : Prop :=
  (1 ≤ w.1 ∧ w.1 ≤ mx) ∧
  (w.2.1 0 = zs_z0 c ∧ w.2.2.1 0 = 0) ∧
  (∀ j, j < w.1 → zs_R c ev (w.2.1 j)) ∧
  (∀ a b, a < w.1 → b < w.1 → w.2.1 a = w.2.1 b → a = b) ∧
  (∀ i' e', e' < ev → (i' < i ∨ (i' = i ∧ e' < e)) → i' < w.1 → w.2.2.2 (i' * 4 + e') < w.1 ∧ w.2.1 (w.2.2.2 (i' * 4 + e')) = zs_sp c (w.2.1 i') e' ∧ w.2.2.1 (w.2.2.2 (i' * 4 + e')) ≤ w.2.2.1 i' + 1) ∧
  (∀ j, 0 < j → j < w.1 → ∃ i' e', i' < j ∧ e' < ev ∧ w.2.1 j = zs_sp c (w.2.1 i') e' ∧ w.2.2.1 j = w.2.2.1 i' + 1) ∧
  (∀ a b, a ≤ b → b < w.1 → w.2.2.1 a ≤ w.2.2.1 b) ∧
  (i < w.1 → ∀ j, j < w.1 → w.2.2.1 j ≤ w.2.2.1 i + 1)
variable {c : Nat → Nat → Nat} {ev mx : Nat}
theorem zb_V_0 (hm : 1 ≤ mx) : zb_V c ev mx 0 0 (zb_0 c) := by
  refine ⟨⟨Nat.le_refl 1, hm⟩, ⟨rfl, rfl⟩, fun j _ => zs_R_0, fun a b ha hb _ => ?_, fun i' e' _ h => ?_, fun j h0 hj => ?_, fun a b _ _ => Nat.le_refl 0, fun _ j _ => Nat.zero_le _⟩
  · have h1 : a < 1 := ha
    have h2 : b < 1 := hb
    omega
  · omega
  · have h1 : j < 1 := hj
    omega
theorem zb_V_i {i : Nat} {w : zb_St} (h : zb_V c ev mx i ev w) : zb_V c ev mx (i + 1) 0 w := by
  obtain ⟨h1, h2, h3, h4, h5, h6, h7, h8⟩ := h
  refine ⟨h1, h2, h3, h4, fun i' e' he' hi' hw => h5 i' e' he' (by omega) hw, h6, h7, fun hi j hj => ?_⟩
  have a := h8 (by omega) j hj
  have b := h7 i (i + 1) (by omega) hi
  omega
theorem zb_V_s (he4 : ev ≤ 4) {i e : Nat} {w w' : zb_St} (h : zb_V c ev mx i e w) (hi : i < w.1) (he : e < ev) (hs : zb_s c mx i e w = some w') : zb_V c ev mx i (e + 1) w' ∧ w.1 ≤ w'.1 ∧ (∀ j, j < w.1 → w'.2.1 j = w.2.1 j) := by
  obtain ⟨h1, h2, h3, h4, h5, h6, h7, h8⟩ := h
  unfold zb_s at hs
  rcases zb_fp_sp w.1 w.2.1 (zs_sp c (w.2.1 i) e) with ⟨p1, p2⟩ | ⟨p1, p2⟩
  · rw [if_neg (by omega)] at hs
    generalize zb_fp w.1 w.2.1 (zs_sp c (w.2.1 i) e) = p at hs p1 p2
    injection hs with hs
    subst hs
    refine ⟨⟨h1, h2, h3, h4, fun i' e' he' hi' hw => ?_, h6, h7, h8⟩, Nat.le_refl _, fun j _ => rfl⟩
    show zn_u w.2.2.2 (i * 4 + e) p (i' * 4 + e') < w.1 ∧ w.2.1 (zn_u w.2.2.2 (i * 4 + e) p (i' * 4 + e')) = zs_sp c (w.2.1 i') e' ∧ w.2.2.1 (zn_u w.2.2.2 (i * 4 + e) p (i' * 4 + e')) ≤ w.2.2.1 i' + 1
    by_cases e1 : i' = i ∧ e' = e
    · rw [e1.1, e1.2, zn_us]
      exact ⟨p1, p2, h8 hi p p1⟩
    · rw [zn_un (by omega)]
      exact h5 i' e' he' (by omega) hw
  · rw [if_pos p1] at hs
    by_cases hm : w.1 < mx
    · rw [if_pos hm] at hs
      injection hs with hs
      subst hs
      have hsit : ∀ j, j < w.1 → zn_u w.2.1 w.1 (zs_sp c (w.2.1 i) e) j = w.2.1 j := fun j hj => zn_un (by omega)
      have hds : ∀ j, j < w.1 → zn_u w.2.2.1 w.1 (w.2.2.1 i + 1) j = w.2.2.1 j := fun j hj => zn_un (by omega)
      refine ⟨⟨⟨by show 1 ≤ w.1 + 1; omega, by show w.1 + 1 ≤ mx; omega⟩, ⟨?_, ?_⟩, fun j hj => ?_, fun a b ha hb hab => ?_, fun i' e' he' hi' hw => ?_, fun j h0 hj => ?_, fun a b hab hb => ?_, fun _ j hj => ?_⟩, by show w.1 ≤ w.1 + 1; omega, hsit⟩
      · show zn_u w.2.1 w.1 _ 0 = _
        rw [hsit 0 (by omega)]; exact h2.1
      · show zn_u w.2.2.1 w.1 _ 0 = _
        rw [hds 0 (by omega)]; exact h2.2
      · have hj' : j < w.1 + 1 := hj
        show zs_R c ev (zn_u w.2.1 w.1 (zs_sp c (w.2.1 i) e) j)
        by_cases e1 : j = w.1
        · rw [e1, zn_us]; exact zs_R_s (h3 i hi) he
        · rw [hsit j (by omega)]; exact h3 j (by omega)
      · have ha' : a < w.1 + 1 := ha
        have hb' : b < w.1 + 1 := hb
        have hab' : zn_u w.2.1 w.1 (zs_sp c (w.2.1 i) e) a = zn_u w.2.1 w.1 (zs_sp c (w.2.1 i) e) b := hab
        by_cases e1 : a = w.1
        · by_cases e2 : b = w.1
          · omega
          · rw [e1, zn_us, hsit b (by omega)] at hab'
            exact absurd hab'.symm (p2 b (by omega))
        · by_cases e2 : b = w.1
          · rw [e2, zn_us, hsit a (by omega)] at hab'
            exact absurd hab' (p2 a (by omega))
          · rw [hsit a (by omega), hsit b (by omega)] at hab'
            exact h4 a b (by omega) (by omega) hab'
      · have hw' : i' < w.1 := by
          have : i' < w.1 + 1 := hw
          omega
        show zn_u w.2.2.2 (i * 4 + e) w.1 (i' * 4 + e') < w.1 + 1 ∧ zn_u w.2.1 w.1 (zs_sp c (w.2.1 i) e) (zn_u w.2.2.2 (i * 4 + e) w.1 (i' * 4 + e')) = zs_sp c (zn_u w.2.1 w.1 (zs_sp c (w.2.1 i) e) i') e' ∧ zn_u w.2.2.1 w.1 (w.2.2.1 i + 1) (zn_u w.2.2.2 (i * 4 + e) w.1 (i' * 4 + e')) ≤ zn_u w.2.2.1 w.1 (w.2.2.1 i + 1) i' + 1
        rw [hsit i' hw', hds i' hw']
        by_cases e1 : i' = i ∧ e' = e
        · rw [e1.1, e1.2, zn_us, zn_us, zn_us]
          exact ⟨by omega, rfl, Nat.le_refl _⟩
        · rw [zn_un (show i' * 4 + e' ≠ i * 4 + e by omega)]
          have a := h5 i' e' he' (by omega) hw'
          rw [hsit _ a.1, hds _ a.1]
          exact ⟨by omega, a.2⟩
      · have hj' : j < w.1 + 1 := hj
        by_cases e1 : j = w.1
        · refine ⟨i, e, by omega, he, ?_, ?_⟩
          · show zn_u w.2.1 w.1 _ j = zs_sp c (zn_u w.2.1 w.1 _ i) e
            rw [e1, zn_us, hsit i hi]
          · show zn_u w.2.2.1 w.1 _ j = zn_u w.2.2.1 w.1 _ i + 1
            rw [e1, zn_us, hds i hi]
        · obtain ⟨i', e', b1, b2, b3, b4⟩ := h6 j h0 (by omega)
          refine ⟨i', e', b1, b2, ?_, ?_⟩
          · show zn_u w.2.1 w.1 _ j = zs_sp c (zn_u w.2.1 w.1 _ i') e'
            rw [hsit j (by omega), hsit i' (by omega)]; exact b3
          · show zn_u w.2.2.1 w.1 _ j = zn_u w.2.2.1 w.1 _ i' + 1
            rw [hds j (by omega), hds i' (by omega)]; exact b4
      · have hb' : b < w.1 + 1 := hb
        show zn_u w.2.2.1 w.1 (w.2.2.1 i + 1) a ≤ zn_u w.2.2.1 w.1 (w.2.2.1 i + 1) b
        by_cases e2 : b = w.1
        · rw [e2, zn_us]
          by_cases e1 : a = w.1
          · rw [e1, zn_us]; exact Nat.le_refl _
          · rw [hds a (by omega)]; exact h8 hi a (by omega)
        · rw [hds b (by omega), hds a (by omega)]
          exact h7 a b hab (by omega)
      · have hj' : j < w.1 + 1 := hj
        show zn_u w.2.2.1 w.1 (w.2.2.1 i + 1) j ≤ zn_u w.2.2.1 w.1 (w.2.2.1 i + 1) i + 1
        rw [hds i hi]
        by_cases e1 : j = w.1
        · rw [e1, zn_us]; exact Nat.le_refl _
        · rw [hds j (by omega)]; exact h8 hi j (by omega)
    · rw [if_neg hm] at hs
      exact absurd hs (by simp)
/-- the finished list -/
def zb_C (c : Nat → Nat → Nat) (ev mx : Nat) (w : zb_St) : Prop := ∃ i, w.1 ≤ i ∧ zb_V c ev mx i 0 w
theorem zb_C_R {w : zb_St} (h : zb_C c ev mx w) {z : Nat} (hz : zs_R c ev z) : ∃ j, j < w.1 ∧ w.2.1 j = z := by
  obtain ⟨i, hi, h1, h2, h3, h4, h5, h6, h7, h8⟩ := h
  refine hz (fun z => ∃ j, j < w.1 ∧ w.2.1 j = z) ⟨0, by omega, h2.1⟩ (fun y e he hy => ?_)
  obtain ⟨j, hj, ej⟩ := hy
  have a := h5 j e he (by omega) hj
  exact ⟨_, a.1, by rw [a.2.1, ej]⟩
/-! distances -/
/-- after k steps: the places where one can be -/
def zb_H (ev : Nat) (w : zb_St) : Nat → Nat → Bool
  | 0, j => decide (j = 0)
  | k + 1, j => zn_any w.1 (fun i => zb_H ev w k i && zn_any ev (fun e => decide (w.2.2.2 (i * 4 + e) = j)))
theorem zb_H_lt {w : zb_St} (h : zb_C c ev mx w) : ∀ k j, zb_H ev w k j = true → j < w.1 ∧ w.2.2.1 j ≤ k := by
  obtain ⟨i, hi, h1, h2, h3, h4, h5, h6, h7, h8⟩ := h
  intro k
  induction k with
  | zero =>
    intro j hj
    have e : j = 0 := decide_eq_true_iff.mp hj
    rw [e, h2.2]
    exact ⟨by omega, Nat.le_refl _⟩
  | succ k ih =>
    intro j hj
    obtain ⟨x, hx, hc⟩ := (zn_any_t _).mp hj
    rw [Bool.and_eq_true] at hc
    obtain ⟨e, he, hd⟩ := (zn_any_t _).mp hc.2
    have ed : w.2.2.2 (x * 4 + e) = j := decide_eq_true_iff.mp hd
    have a := h5 x e he (by omega) hx
    have b := ih x hc.1
    rw [ed] at a
    exact ⟨a.1, by omega⟩
theorem zb_H_ds {w : zb_St} (h : zb_C c ev mx w) : ∀ j, j < w.1 → zb_H ev w (w.2.2.1 j) j = true := by
  obtain ⟨i, hi, h1, h2, h3, h4, h5, h6, h7, h8⟩ := h
  intro j
  induction j using Nat.strongRecOn with
  | ind j ih =>
    intro hj
    by_cases e0 : j = 0
    · rw [e0, h2.2]
      rfl
    · obtain ⟨x, e, b1, b2, b3, b4⟩ := h6 j (by omega) hj
      have a := h5 x e b2 (by omega) (by omega)
      have ej : w.2.2.2 (x * 4 + e) = j := h4 _ _ a.1 hj (by rw [a.2.1, b3])
      rw [b4]
      refine (zn_any_t _).mpr ⟨x, by omega, ?_⟩
      rw [Bool.and_eq_true]
      exact ⟨ih x b1 (by omega), (zn_any_t _).mpr ⟨e, b2, decide_eq_true_iff.mpr ej⟩⟩
theorem zb_ds_le {w : zb_St} (h : zb_C c ev mx w) : ∀ j, j < w.1 → w.2.2.1 j ≤ j := by
  obtain ⟨i, hi, h1, h2, h3, h4, h5, h6, h7, h8⟩ := h
  intro j
  induction j using Nat.strongRecOn with
  | ind j ih =>
    intro hj
    by_cases e0 : j = 0
    · rw [e0, h2.2]; exact Nat.le_refl _
    · obtain ⟨x, e, b1, b2, b3, b4⟩ := h6 j (by omega) hj
      have := ih x b1 (by omega)
      omega
/-- the answer: the distance of the first place with a bit s, or -5 -/
def zb_D (w : zb_St) (s : Nat) : Int32 := if zn_fi (fun j => (w.2.1 j).testBit s) w.1 w.1 0 = w.1 then -5 else nI (w.2.2.1 (zn_fi (fun j => (w.2.1 j).testBit s) w.1 w.1 0))
/-- is there a hit after k steps -/
def zb_hit (ev : Nat) (w : zb_St) (s k : Nat) : Bool := zn_any w.1 (fun j => zb_H ev w k j && (w.2.1 j).testBit s)
/-- the same found by steps -/
def zb_Y (ev : Nat) (w : zb_St) (s : Nat) : Nat → Nat → Int32
  | 0, _ => -5
  | r + 1, k => if zb_hit ev w s k = true then nI k else zb_Y ev w s r (k + 1)
theorem zb_Y_no {w : zb_St} {s : Nat} : ∀ r k, (∀ x, k ≤ x → x < k + r → zb_hit ev w s x = false) → zb_Y ev w s r k = -5 := by
  intro r
  induction r with
  | zero => intro k _; rfl
  | succ r ih =>
    intro k h
    show (if zb_hit ev w s k = true then nI k else zb_Y ev w s r (k + 1)) = -5
    rw [h k (by omega) (by omega), if_neg (by decide)]
    exact ih (k + 1) (fun x a b => h x (by omega) (by omega))
theorem zb_Y_at {w : zb_St} {s D : Nat} (hD : zb_hit ev w s D = true) : ∀ r k, k ≤ D → D < k + r → (∀ x, k ≤ x → x < D → zb_hit ev w s x = false) → zb_Y ev w s r k = nI D := by
  intro r
  induction r with
  | zero => intro k h1 h2; omega
  | succ r ih =>
    intro k h1 h2 h
    show (if zb_hit ev w s k = true then nI k else zb_Y ev w s r (k + 1)) = nI D
    by_cases e : k = D
    · rw [e, hD, if_pos rfl]
    · rw [h k (by omega) (by omega), if_neg (by decide)]
      exact ih (k + 1) (by omega) (by omega) (fun x a b => h x (by omega) (by omega))
theorem zb_DY {w : zb_St} (h : zb_C c ev mx w) (s : Nat) : zb_Y ev w s w.1 0 = zb_D w s := by
  unfold zb_D
  rcases zn_fi_sp (f := fun j => (w.2.1 j).testBit s) (d := w.1) w.1 0 with ⟨j, h1, h2, h3, h4, h5⟩ | ⟨h1, h2⟩
  · rw [h4, if_neg (by omega)]
    have hds := zb_ds_le h j (by omega)
    refine zb_Y_at ?_ w.1 0 (by omega) (by omega) (fun x _ hx => ?_)
    · refine (zn_any_t _).mpr ⟨j, by omega, ?_⟩
      rw [Bool.and_eq_true]
      exact ⟨zb_H_ds h j (by omega), h3⟩
    · apply zn_any_f.mpr
      intro y hy
      cases hH : zb_H ev w x y
      · rfl
      · have a := zb_H_lt h x y hH
        by_cases e : y < j
        · rw [Bool.true_and]; exact h5 y (by omega) e
        · exfalso
          obtain ⟨i, hi, g1, g2, g3, g4, g5, g6, g7, g8⟩ := h
          have := g7 j y (by omega) hy
          omega
  · rw [h1, if_pos rfl]
    apply zb_Y_no
    intro x _ _
    apply zn_any_f.mpr
    intro y hy
    have := h2 y (by omega) (by omega)
    show (zb_H ev w x y && (w.2.1 y).testBit s) = false
    have h3 : (w.2.1 y).testBit s = false := this
    rw [h3, Bool.and_false]
end ZBF
end
section
section ZXE
/-! the component's walks: exploring -/
variable {c d : Nat → Nat → Nat} {ev mx : Nat}
variable {f_maxStates f_maxTransitions f_sealed f_built f_stepTaken f_stepExited f_stepEntered f_place1 f_found : Int32} {f_stepAfter f_situation0 : Int64} {a_log a_logLength a_stepsTo a_nextPlace a_takenAt a_exitedAt a_enteredAt : Nat → Int32} {a_situations : Nat → Int64}
theorem zx_fp2 {post : Int32 → Prop} {k z : Nat} {sit : Nat → Nat} (hk : k ≤ 16) (hz : z < 2 ^ 60) (hs : ∀ j, j < k → a_situations j = lN (sit j) ∧ sit j < 2 ^ 60) : ∀ r j, j + r = k → post (nI (zn_fi (fun j => decide (sit j = z)) k r j)) → wX_findPlace_2 post (lN z) f_maxStates f_maxTransitions (nI ev) (nI mx) f_sealed f_built (nI (zs_n c)) (nI (d 6 0)) (nI (zs_q c)) f_stepAfter f_stepTaken f_stepExited f_stepEntered f_situation0 f_place1 (nI k) (zn_A (c 0)) (zn_A (c 1)) (zn_A (c 2)) (zn_A (c 3)) (zn_A (c 4)) (zn_A (d 0)) (zn_A (d 1)) (zn_A (d 2)) (zn_A (d 3)) (zn_A (c 5)) (zn_A (c 6)) (zn_A (c 7)) (zn_A (c 8)) (zn_A (c 9)) (zn_A (c 10)) (zn_A (d 4)) (zn_A (d 5)) a_log a_logLength a_situations a_stepsTo a_nextPlace a_takenAt a_exitedAt a_enteredAt (r + 1) (nI j) := by
  intro r
  induction r with
  | zero =>
    intro j hj hp
    exact br_t (nI_le (by omega) (by omega)) hp
  | succ r ih =>
    intro j hj hp
    have s := hs j (by omega)
    refine br_f (nI_ge (by omega) (by omega)) (And.intro (vp_in_nI (by omega) (by decide)) ?_)
    rw [nI_clamp (show j < 2 ^ 31 by omega), s.1]
    refine ek_if (zw_lne s.2 hz) (fun h => ?_) (fun h => ?_)
    · rw [zn_fi_t (decide_eq_true h)] at hp
      exact hp
    · rw [zn_fi_n (decide_eq_false h)] at hp
      exact nm_r (nI_1 j) (ih (j + 1) (by omega) hp)
theorem zx_fp {post : Int32 → Prop} {k z : Nat} {sit : Nat → Nat} (hk : k ≤ 16) (hz : z < 2 ^ 60) (hs : ∀ j, j < k → a_situations j = lN (sit j) ∧ sit j < 2 ^ 60) (hp : post (nI (zb_fp k sit z))) : wpX_findPlace post (f_maxStates, f_maxTransitions, nI ev, nI mx, f_sealed, f_built, nI (zs_n c), nI (d 6 0), nI (zs_q c), f_stepAfter, f_stepTaken, f_stepExited, f_stepEntered, f_situation0, f_place1, nI k, zn_A (c 0), zn_A (c 1), zn_A (c 2), zn_A (c 3), zn_A (c 4), zn_A (d 0), zn_A (d 1), zn_A (d 2), zn_A (d 3), zn_A (c 5), zn_A (c 6), zn_A (c 7), zn_A (c 8), zn_A (c 9), zn_A (c 10), zn_A (d 4), zn_A (d 5), a_log, a_logLength, a_situations, a_stepsTo, a_nextPlace, a_takenAt, a_exitedAt, a_enteredAt) (lN z) :=
  ⟨k + 1, zx_fp2 hk hz hs k 0 (Nat.zero_add _) hp⟩
/-- a row of the table -/
def zx_row (c : Nat → Nat → Nat) (w : zb_St) (np ta ea na : Nat → Int32) (i e : Nat) : Prop := np (i * 4 + e) = nI (w.2.2.2 (i * 4 + e)) ∧ ta (i * 4 + e) = nI (zs_tkm c (w.2.1 i) e) ∧ ea (i * 4 + e) = nI (zs_exm c (w.2.1 i) e) ∧ na (i * 4 + e) = nI (zs_enm c (w.2.1 i) e)
/-- the list and the table so far -/
def zx_B (c : Nat → Nat → Nat) (ev : Nat) (w : zb_St) (i e : Nat) (sa : Nat → Int64) (st np ta ea na : Nat → Int32) : Prop :=
  (∀ j, j < w.1 → sa j = lN (w.2.1 j) ∧ st j = nI (w.2.2.1 j)) ∧ (∀ i' e', e' < ev → (i' < i ∨ (i' = i ∧ e' < e)) → i' < w.1 → zx_row c w np ta ea na i' e')
theorem zx_B_row (he4 : ev ≤ 4) {w w' : zb_St} {i e p : Nat} {sa : Nat → Int64} {st np ta ea na : Nat → Int32} (h : ∀ i' e', e' < ev → (i' < i ∨ (i' = i ∧ e' < e)) → i' < w.1 → zx_row c w np ta ea na i' e') (hi : i < w.1) (he : e < ev) (hs : ∀ j, j < w.1 → w'.2.1 j = w.2.1 j) (hn : w'.2.2.2 = zn_u w.2.2.2 (i * 4 + e) p) : ∀ i' e', e' < ev → (i' < i ∨ (i' = i ∧ e' < e + 1)) → i' < w'.1 → zx_row c w' (upd np (i * 4 + e) (nI p)) (upd ta (i * 4 + e) (nI (zs_tkm c (w.2.1 i) e))) (upd ea (i * 4 + e) (nI (zs_exm c (w.2.1 i) e))) (upd na (i * 4 + e) (nI (zs_enm c (w.2.1 i) e))) i' e' := by
  intro i' e' he' hi' _
  have hw : i' < w.1 := by omega
  unfold zx_row
  rw [hs i' hw, hn]
  by_cases e1 : i' = i ∧ e' = e
  · rw [e1.1, e1.2, pk_us, pk_us, pk_us, pk_us, zn_us]
    exact ⟨rfl, rfl, rfl, rfl⟩
  · have ne : i' * 4 + e' ≠ i * 4 + e := by omega
    rw [pk_un ne, pk_un ne, pk_un ne, pk_un ne, zn_un ne]
    exact h i' e' he' (by omega) hw
theorem zx_75 {post : Int32 → SX → Prop} {i e : Nat} {x3 : Int32} (hi : i < 16) (he : e < 4) (hp : post 1 (f_maxStates, f_maxTransitions, nI ev, nI mx, f_sealed, f_built, nI (zs_n c), nI (d 6 0), nI (zs_q c), f_stepAfter, f_stepTaken, f_stepExited, f_stepEntered, f_situation0, f_place1, f_found, zn_A (c 0), zn_A (c 1), zn_A (c 2), zn_A (c 3), zn_A (c 4), zn_A (d 0), zn_A (d 1), zn_A (d 2), zn_A (d 3), zn_A (c 5), zn_A (c 6), zn_A (c 7), zn_A (c 8), zn_A (c 9), zn_A (c 10), zn_A (d 4), zn_A (d 5), a_log, a_logLength, a_situations, a_stepsTo, upd a_nextPlace (i * 4 + e) x3, upd a_takenAt (i * 4 + e) f_stepTaken, upd a_exitedAt (i * 4 + e) f_stepExited, upd a_enteredAt (i * 4 + e) f_stepEntered)) : wX_exploreStep_75 post (nI i) (nI e) x3 f_maxStates f_maxTransitions (nI ev) (nI mx) f_sealed f_built (nI (zs_n c)) (nI (d 6 0)) (nI (zs_q c)) f_stepAfter f_stepTaken f_stepExited f_stepEntered f_situation0 f_place1 f_found (zn_A (c 0)) (zn_A (c 1)) (zn_A (c 2)) (zn_A (c 3)) (zn_A (c 4)) (zn_A (d 0)) (zn_A (d 1)) (zn_A (d 2)) (zn_A (d 3)) (zn_A (c 5)) (zn_A (c 6)) (zn_A (c 7)) (zn_A (c 8)) (zn_A (c 9)) (zn_A (c 10)) (zn_A (d 4)) (zn_A (d 5)) a_log a_logLength a_situations a_stepsTo a_nextPlace a_takenAt a_exitedAt a_enteredAt := by
  have ei : nI i * 4 + nI e = nI (i * 4 + e) := by
    show nI i * nI 4 + nI e = _
    rw [pk_mul, nI_add]
  have vi : vp_in (nI (i * 4 + e)) 64 := vp_in_nI (by omega) (by decide)
  refine nm_r ei (And.intro vi ?_)
  rw [nI_clamp (show i * 4 + e < 2 ^ 31 by omega)]
  exact nm_e (And.intro vi (nm_e (And.intro vi (nm_e (And.intro vi (nm_e hp))))))
theorem zx_eSt {post : Int32 → SX → Prop} {i e : Nat} {w : zb_St} {sa : Nat → Int64} {st np ta ea na : Nat → Int32} (hG : zs_G c ev) (hD : zx_D c d) (hmx : mx ≤ 16) (hV : zb_V c ev mx i e w) (hB : zx_B c ev w i e sa st np ta ea na) (hi : i < w.1) (he : e < ev)
    (K0 : zb_s c mx i e w = none → ∀ (fa : Int64) (ft fx fe : Int32), post 0 (f_maxStates, f_maxTransitions, nI ev, nI mx, f_sealed, f_built, nI (zs_n c), nI (d 6 0), nI (zs_q c), fa, ft, fx, fe, f_situation0, f_place1, nI w.1, zn_A (c 0), zn_A (c 1), zn_A (c 2), zn_A (c 3), zn_A (c 4), zn_A (d 0), zn_A (d 1), zn_A (d 2), zn_A (d 3), zn_A (c 5), zn_A (c 6), zn_A (c 7), zn_A (c 8), zn_A (c 9), zn_A (c 10), zn_A (d 4), zn_A (d 5), a_log, a_logLength, sa, st, np, ta, ea, na))
    (K1 : ∀ w', zb_s c mx i e w = some w' → ∀ (fa : Int64) (ft fx fe : Int32) (sa' : Nat → Int64) (st' np' ta' ea' na' : Nat → Int32), zx_B c ev w' i (e + 1) sa' st' np' ta' ea' na' → post 1 (f_maxStates, f_maxTransitions, nI ev, nI mx, f_sealed, f_built, nI (zs_n c), nI (d 6 0), nI (zs_q c), fa, ft, fx, fe, f_situation0, f_place1, nI w'.1, zn_A (c 0), zn_A (c 1), zn_A (c 2), zn_A (c 3), zn_A (c 4), zn_A (d 0), zn_A (d 1), zn_A (d 2), zn_A (d 3), zn_A (c 5), zn_A (c 6), zn_A (c 7), zn_A (c 8), zn_A (c 9), zn_A (c 10), zn_A (d 4), zn_A (d 5), a_log, a_logLength, sa', st', np', ta', ea', na')) :
    wpX_exploreStep post (f_maxStates, f_maxTransitions, nI ev, nI mx, f_sealed, f_built, nI (zs_n c), nI (d 6 0), nI (zs_q c), f_stepAfter, f_stepTaken, f_stepExited, f_stepEntered, f_situation0, f_place1, nI w.1, zn_A (c 0), zn_A (c 1), zn_A (c 2), zn_A (c 3), zn_A (c 4), zn_A (d 0), zn_A (d 1), zn_A (d 2), zn_A (d 3), zn_A (c 5), zn_A (c 6), zn_A (c 7), zn_A (c 8), zn_A (c 9), zn_A (c 10), zn_A (d 4), zn_A (d 5), a_log, a_logLength, sa, st, np, ta, ea, na) (nI i) (nI e) := by
  have hn := zs_Gn hG
  obtain ⟨h1, h2, h3, h4, h5, h6, h7, h8⟩ := hV
  have hW : zs_W c (w.2.1 i) := zs_R_W hG (h3 i hi)
  have hW' := zs_W_sp hG (e := e) hW
  have vi : vp_in (nI i) 16 := vp_in_nI (by omega) (by decide)
  refine And.intro vi ?_
  rw [nI_clamp (show i < 2 ^ 31 by omega), (hB.1 i hi).1]
  refine zx_cStep hG hD hW (by omega) ?_
  refine zx_fp (k := w.1) (sit := w.2.1) (by omega) hW'.1.1 (fun j hj => ⟨(hB.1 j hj).1, (zs_R_W hG (h3 j hj)).1.1⟩) ?_
  unfold zb_s at K0 K1
  rcases zb_fp_sp w.1 w.2.1 (zs_sp c (w.2.1 i) e) with ⟨p1, p2⟩ | ⟨p1, p2⟩
  · rw [if_neg (by omega)] at K1
    generalize zb_fp w.1 w.2.1 (zs_sp c (w.2.1 i) e) = p at K1 p1 p2 ⊢
    refine br_f (fun h => ?_) ?_
    · rw [nI_eq (by omega) (by omega)] at h
      omega
    · refine zx_75 (by omega) (by omega) ?_
      exact K1 _ rfl _ _ _ _ _ _ _ _ _ _ ⟨hB.1, zx_B_row (w := w) hn.2.2.2 (sa := sa) (st := st) hB.2 hi he (fun _ _ => rfl) rfl⟩
  · rw [if_pos p1] at K0 K1
    rw [p1]
    refine br_t rfl ?_
    refine pk_lt w.1 mx (fun hm => ?_) (fun hm => ?_)
    · rw [if_pos hm] at K1
      have vk : vp_in (nI w.1) 16 := vp_in_nI (by omega) (by decide)
      refine And.intro vk ?_
      rw [nI_clamp (show w.1 < 2 ^ 31 by omega), (hB.1 i hi).2, nI_1]
      refine nm_e (And.intro vi (And.intro vk (nm_e (nm_r (nI_1 _) ?_))))
      refine zx_75 (by omega) (by omega) ?_
      refine K1 _ rfl _ _ _ _ _ _ _ _ _ _ ⟨fun j hj => ?_, zx_B_row (w := w) hn.2.2.2 (sa := sa) (st := st) hB.2 hi he (fun j hj => zn_un (by omega)) rfl⟩
      have hj' : j < w.1 + 1 := hj
      show vp_updL sa w.1 _ j = lN (zn_u w.2.1 w.1 _ j) ∧ upd st w.1 _ j = nI (zn_u w.2.2.1 w.1 _ j)
      by_cases e1 : j = w.1
      · rw [e1, pk_uLs, pk_us, zn_us, zn_us]; exact ⟨rfl, rfl⟩
      · rw [pk_uLn e1, pk_un e1, zn_un e1, zn_un e1]; exact hB.1 j (by omega)
    · rw [if_neg (by omega)] at K0
      exact K0 rfl _ _ _ _
theorem zx_x44 {post : Int32 → SX → Prop} {J : Int32 → Int32 → Int32 → Int32 → Int32 → Int32 → Int32 → Int32 → Int32 → Int32 → Int64 → Int32 → Int32 → Int32 → Int64 → Int32 → Int32 → (Nat → Int32) → (Nat → Int32) → (Nat → Int32) → (Nat → Int32) → (Nat → Int32) → (Nat → Int32) → (Nat → Int32) → (Nat → Int32) → (Nat → Int32) → (Nat → Int32) → (Nat → Int32) → (Nat → Int32) → (Nat → Int32) → (Nat → Int32) → (Nat → Int32) → (Nat → Int32) → (Nat → Int32) → (Nat → Int32) → (Nat → Int32) → (Nat → Int64) → (Nat → Int32) → (Nat → Int32) → (Nat → Int32) → (Nat → Int32) → (Nat → Int32) → Prop} {i : Nat} (hG : zs_G c ev) (hD : zx_D c d) (hmx : mx ≤ 16) : ∀ r e (w : zb_St) (fa : Int64) (ft fx fe : Int32) (sa : Nat → Int64) (st np ta ea na : Nat → Int32), e + r = ev → zb_V c ev mx i e w → i < w.1 → zx_B c ev w i e sa st np ta ea na →
    (zb_E c mx i r e w = none → ∀ (fa : Int64) (ft fx fe ff : Int32) (sa : Nat → Int64) (st np ta ea na : Nat → Int32), post 0 (f_maxStates, f_maxTransitions, nI ev, nI mx, f_sealed, f_built, nI (zs_n c), nI (d 6 0), nI (zs_q c), fa, ft, fx, fe, f_situation0, f_place1, ff, zn_A (c 0), zn_A (c 1), zn_A (c 2), zn_A (c 3), zn_A (c 4), zn_A (d 0), zn_A (d 1), zn_A (d 2), zn_A (d 3), zn_A (c 5), zn_A (c 6), zn_A (c 7), zn_A (c 8), zn_A (c 9), zn_A (c 10), zn_A (d 4), zn_A (d 5), a_log, a_logLength, sa, st, np, ta, ea, na)) →
    (∀ w', zb_E c mx i r e w = some w' → zb_V c ev mx i ev w' → i < w'.1 → ∀ (fa : Int64) (ft fx fe : Int32) (sa' : Nat → Int64) (st' np' ta' ea' na' : Nat → Int32), zx_B c ev w' i ev sa' st' np' ta' ea' na' → J (nI (i + 1)) f_maxStates f_maxTransitions (nI ev) (nI mx) f_sealed f_built (nI (zs_n c)) (nI (d 6 0)) (nI (zs_q c)) fa ft fx fe f_situation0 f_place1 (nI w'.1) (zn_A (c 0)) (zn_A (c 1)) (zn_A (c 2)) (zn_A (c 3)) (zn_A (c 4)) (zn_A (d 0)) (zn_A (d 1)) (zn_A (d 2)) (zn_A (d 3)) (zn_A (c 5)) (zn_A (c 6)) (zn_A (c 7)) (zn_A (c 8)) (zn_A (c 9)) (zn_A (c 10)) (zn_A (d 4)) (zn_A (d 5)) a_log a_logLength sa' st' np' ta' ea' na') →
    wX_explore_44 post J (nI i) (r + 1) (nI e) f_maxStates f_maxTransitions (nI ev) (nI mx) f_sealed f_built (nI (zs_n c)) (nI (d 6 0)) (nI (zs_q c)) fa ft fx fe f_situation0 f_place1 (nI w.1) (zn_A (c 0)) (zn_A (c 1)) (zn_A (c 2)) (zn_A (c 3)) (zn_A (c 4)) (zn_A (d 0)) (zn_A (d 1)) (zn_A (d 2)) (zn_A (d 3)) (zn_A (c 5)) (zn_A (c 6)) (zn_A (c 7)) (zn_A (c 8)) (zn_A (c 9)) (zn_A (c 10)) (zn_A (d 4)) (zn_A (d 5)) a_log a_logLength sa st np ta ea na := by
  intro r
  have hn := zs_Gn hG
  induction r with
  | zero =>
    intro e w fa ft fx fe sa st np ta ea na he hV hi hB K0 K1
    have he' : e = ev := by omega
    subst he'
    exact br_t (nI_le (by omega) (by omega)) (nm_r (nI_1 i) (K1 w rfl hV hi fa ft fx fe sa st np ta ea na hB))
  | succ r ih =>
    intro e w fa ft fx fe sa st np ta ea na he hV hi hB K0 K1
    rw [zb_E_s] at K0 K1
    refine br_f (nI_ge (by omega) (by omega)) ?_
    refine zx_eSt hG hD hmx hV hB hi (by omega) (fun hs fa' ft' fx' fe' => ?_) (fun w' hs fa' ft' fx' fe' sa' st' np' ta' ea' na' hB' => ?_)
    · rw [hs] at K0
      exact br_t rfl (K0 rfl _ _ _ _ _ _ _ _ _ _ _)
    · have a := zb_V_s hn.2.2.2 hV hi (by omega) hs
      rw [hs] at K0 K1
      refine br_f (by decide) (nm_r (nI_1 e) ?_)
      exact ih (e + 1) w' fa' ft' fx' fe' sa' st' np' ta' ea' na' (by omega) a.1 (by have := a.2.1; omega) hB' K0 K1
theorem zx_B_i {i : Nat} {w : zb_St} {sa : Nat → Int64} {st np ta ea na : Nat → Int32} (h : zx_B c ev w i ev sa st np ta ea na) : zx_B c ev w (i + 1) 0 sa st np ta ea na :=
  ⟨h.1, fun i' e' he' hi' hw => h.2 i' e' he' (by omega) hw⟩
/-- the whole list and table -/
def zx_T (c : Nat → Nat → Nat) (ev : Nat) (w : zb_St) (sa : Nat → Int64) (st np ta ea na : Nat → Int32) : Prop :=
  (∀ j, j < w.1 → sa j = lN (w.2.1 j) ∧ st j = nI (w.2.2.1 j)) ∧ (∀ i e, e < ev → i < w.1 → zx_row c w np ta ea na i e)
theorem zx_x28 {post : Int32 → SX → Prop} (hG : zs_G c ev) (hD : zx_D c d) (hmx : mx ≤ 16) : ∀ r i (w : zb_St) (fa : Int64) (ft fx fe : Int32) (sa : Nat → Int64) (st np ta ea na : Nat → Int32), i + r = 16 → zb_V c ev mx i 0 w → zx_B c ev w i 0 sa st np ta ea na →
    (zb_I c mx ev r i w = none → ∀ (fa : Int64) (ft fx fe ff : Int32) (sa : Nat → Int64) (st np ta ea na : Nat → Int32), post 0 (f_maxStates, f_maxTransitions, nI ev, nI mx, f_sealed, f_built, nI (zs_n c), nI (d 6 0), nI (zs_q c), fa, ft, fx, fe, f_situation0, f_place1, ff, zn_A (c 0), zn_A (c 1), zn_A (c 2), zn_A (c 3), zn_A (c 4), zn_A (d 0), zn_A (d 1), zn_A (d 2), zn_A (d 3), zn_A (c 5), zn_A (c 6), zn_A (c 7), zn_A (c 8), zn_A (c 9), zn_A (c 10), zn_A (d 4), zn_A (d 5), a_log, a_logLength, sa, st, np, ta, ea, na)) →
    (∀ w', zb_I c mx ev r i w = some w' → zb_C c ev mx w' → ∀ (fa : Int64) (ft fx fe : Int32) (sa' : Nat → Int64) (st' np' ta' ea' na' : Nat → Int32), zx_T c ev w' sa' st' np' ta' ea' na' → post 1 (f_maxStates, f_maxTransitions, nI ev, nI mx, f_sealed, f_built, nI (zs_n c), nI (d 6 0), nI (zs_q c), fa, ft, fx, fe, f_situation0, f_place1, nI w'.1, zn_A (c 0), zn_A (c 1), zn_A (c 2), zn_A (c 3), zn_A (c 4), zn_A (d 0), zn_A (d 1), zn_A (d 2), zn_A (d 3), zn_A (c 5), zn_A (c 6), zn_A (c 7), zn_A (c 8), zn_A (c 9), zn_A (c 10), zn_A (d 4), zn_A (d 5), a_log, a_logLength, sa', st', np', ta', ea', na')) →
    wX_explore_28 post (r + 1) (nI i) f_maxStates f_maxTransitions (nI ev) (nI mx) f_sealed f_built (nI (zs_n c)) (nI (d 6 0)) (nI (zs_q c)) fa ft fx fe f_situation0 f_place1 (nI w.1) (zn_A (c 0)) (zn_A (c 1)) (zn_A (c 2)) (zn_A (c 3)) (zn_A (c 4)) (zn_A (d 0)) (zn_A (d 1)) (zn_A (d 2)) (zn_A (d 3)) (zn_A (c 5)) (zn_A (c 6)) (zn_A (c 7)) (zn_A (c 8)) (zn_A (c 9)) (zn_A (c 10)) (zn_A (d 4)) (zn_A (d 5)) a_log a_logLength sa st np ta ea na := by
  intro r
  have hn := zs_Gn hG
  induction r with
  | zero =>
    intro i w fa ft fx fe sa st np ta ea na hi hV hB K0 K1
    have hw : w.1 ≤ i := by have := hV.1; omega
    have hi' : i = 16 := by omega
    subst hi'
    exact br_t (by decide) (K1 w rfl ⟨16, hw, hV⟩ fa ft fx fe sa st np ta ea na ⟨hB.1, fun i' e' he' hi' => hB.2 i' e' he' (by omega) hi'⟩)
  | succ r ih =>
    intro i w fa ft fx fe sa st np ta ea na hi hV hB K0 K1
    have hw16 : w.1 ≤ 16 := by have := hV.1; omega
    refine br_f (nI_ge (b := 16) (by omega) (by decide)) ?_
    refine pk_le w.1 i (fun h => ?_) (fun h => ?_)
    · exact K1 w (zb_I_e h) ⟨i, h, hV⟩ fa ft fx fe sa st np ta ea na ⟨hB.1, fun i' e' he' hi' => hB.2 i' e' he' (by omega) hi'⟩
    · rw [zb_I_s (by omega)] at K0 K1
      refine ⟨ev + 1, ?_⟩
      refine zx_x44 hG hD hmx ev 0 w fa ft fx fe sa st np ta ea na (Nat.zero_add _) hV h hB (fun hE => ?_) (fun w' hE hV' hi' fa' ft' fx' fe' sa' st' np' ta' ea' na' hB' => ?_)
      · rw [hE] at K0
        exact K0 rfl
      · rw [hE] at K0 K1
        exact ih (i + 1) w' fa' ft' fx' fe' sa' st' np' ta' ea' na' (by omega) (zb_V_i hV') (zx_B_i hB') K0 K1
theorem zx_expl {post : Int32 → SX → Prop} (hG : zs_G c ev) (hD : zx_D c d) (hm1 : 1 ≤ mx) (hmx : mx ≤ 16)
    (K0 : zb_I c mx ev 16 0 (zb_0 c) = none → ∀ (fa : Int64) (ft fx fe ff : Int32) (sa : Nat → Int64) (st np ta ea na : Nat → Int32), post 0 (f_maxStates, f_maxTransitions, nI ev, nI mx, f_sealed, f_built, nI (zs_n c), nI (d 6 0), nI (zs_q c), fa, ft, fx, fe, f_situation0, f_place1, ff, zn_A (c 0), zn_A (c 1), zn_A (c 2), zn_A (c 3), zn_A (c 4), zn_A (d 0), zn_A (d 1), zn_A (d 2), zn_A (d 3), zn_A (c 5), zn_A (c 6), zn_A (c 7), zn_A (c 8), zn_A (c 9), zn_A (c 10), zn_A (d 4), zn_A (d 5), a_log, a_logLength, sa, st, np, ta, ea, na))
    (K1 : ∀ w', zb_I c mx ev 16 0 (zb_0 c) = some w' → zb_C c ev mx w' → ∀ (fa : Int64) (ft fx fe : Int32) (sa' : Nat → Int64) (st' np' ta' ea' na' : Nat → Int32), zx_T c ev w' sa' st' np' ta' ea' na' → post 1 (f_maxStates, f_maxTransitions, nI ev, nI mx, f_sealed, f_built, nI (zs_n c), nI (d 6 0), nI (zs_q c), fa, ft, fx, fe, f_situation0, f_place1, nI w'.1, zn_A (c 0), zn_A (c 1), zn_A (c 2), zn_A (c 3), zn_A (c 4), zn_A (d 0), zn_A (d 1), zn_A (d 2), zn_A (d 3), zn_A (c 5), zn_A (c 6), zn_A (c 7), zn_A (c 8), zn_A (c 9), zn_A (c 10), zn_A (d 4), zn_A (d 5), a_log, a_logLength, sa', st', np', ta', ea', na')) :
    wpX_explore post (f_maxStates, f_maxTransitions, nI ev, nI mx, f_sealed, f_built, nI (zs_n c), nI (d 6 0), nI (zs_q c), f_stepAfter, f_stepTaken, f_stepExited, f_stepEntered, f_situation0, f_place1, f_found, zn_A (c 0), zn_A (c 1), zn_A (c 2), zn_A (c 3), zn_A (c 4), zn_A (d 0), zn_A (d 1), zn_A (d 2), zn_A (d 3), zn_A (c 5), zn_A (c 6), zn_A (c 7), zn_A (c 8), zn_A (c 9), zn_A (c 10), zn_A (d 4), zn_A (d 5), a_log, a_logLength, a_situations, a_stepsTo, a_nextPlace, a_takenAt, a_exitedAt, a_enteredAt) := by
  unfold wpX_explore
  refine zx_cStart hG hD ?_
  refine nm_e (nm_e ⟨17, ?_⟩)
  refine zx_x28 hG hD hmx 16 0 (zb_0 c) _ _ _ _ _ _ _ _ _ _ rfl (zb_V_0 hm1) ⟨fun j hj => ?_, fun i' e' _ h => ?_⟩ K0 K1
  · have hj' : j < 1 := hj
    have e0 : j = 0 := by omega
    subst e0
    exact ⟨pk_uLs, pk_us⟩
  · omega
end ZXE
end
section
section ZYD
/-! the reference's walks: building -/
/-- slots 0 and 1 and their logs are as they were -/
def zy_Q (act last lg ll act' last' lg' ll' : Nat → Int32) : Prop := (∀ j, j < 24 → act' j = act j ∧ last' j = last j) ∧ (∀ j, j < 80 → lg' j = lg j) ∧ (∀ j, j < 2 → ll' j = ll j)
theorem zy_Q_rf {act last lg ll : Nat → Int32} : zy_Q act last lg ll act last lg ll := ⟨fun _ _ => ⟨rfl, rfl⟩, fun _ _ => rfl, fun _ _ => rfl⟩
theorem zy_Q_F {m : Nat} {act last lg ll act' last' lg' ll' act2 last2 : Nat → Int32} (h : zy_Q act last lg ll act' last' lg' ll') (hm : 2 ≤ m) (hF : zy_F m act' last' act2 last2) : zy_Q act last lg ll act2 last2 lg' ll' :=
  ⟨fun j hj => ⟨(hF j (by omega)).1.trans (h.1 j hj).1, (hF j (by omega)).2.trans (h.1 j hj).2⟩, h.2⟩
theorem zy_Q_L {m : Nat} {act last lg ll act' last' lg' ll' lg2 ll2 : Nat → Int32} (h : zy_Q act last lg ll act' last' lg' ll') (hm : 2 ≤ m) (hF : zl_fr m lg' ll' lg2 ll2) : zy_Q act last lg ll act' last' lg2 ll2 :=
  ⟨h.1, fun j hj => (hF.1 j (by omega)).trans (h.2.1 j hj), fun j hj => (hF.2 j (by omega)).trans (h.2.2 j hj)⟩
theorem zy_Q_S {m z : Nat} {act last lg ll act' last' lg' ll' : Nat → Int32} (h : zy_Q act last lg ll act' last' lg' ll') (hm : m < 2) (hS : zy_S act last m z) : zy_S act' last' m z := by
  intro s hs
  have a := h.1 (m * 12 + s) (by omega)
  rw [a.1, a.2]; exact hS s hs
theorem zy_Q_l {m : Nat} {l : List Nat} {act last lg ll act' last' lg' ll' : Nat → Int32} (h : zy_Q act last lg ll act' last' lg' ll') (hm : m < 2) (ho : zl_ok ll lg m l) : zl_ok ll' lg' m l := by
  refine ⟨(h.2.2 m hm).trans ho.1, ho.2.1, fun i hi => ?_⟩
  have := ho.2.1
  rw [h.2.1 (m * 40 + i) (by omega)]
  exact ho.2.2 i hi
variable {c : Nat → Nat → Nat} {ev mx : Nat}
variable {f_maxStates f_maxTransitions f_phase f_found : Int32} {a_active a_last a_logs a_logSize a_enabled a_taken a_exited a_by a_before a_here a_next : Nat → Int32}
abbrev zy_JB : Type := Int32 → Int32 → Int32 → Int32 → Int32 → Int32 → Int32 → Int32 → Int32 → zy_J
theorem zy_b42s {post : Int32 → SY → Prop} {J : zy_JB} {i k : Nat} (he4 : ev ≤ 4) (hk : k ≤ i) (hi : i < 2 ^ 31) (hJ : J (nI k) (nI (i + 1)) f_maxStates f_maxTransitions (nI ev) (nI mx) f_phase (nI (zs_n c)) (nI (zs_q c)) f_found (zn_A (c 0)) (zn_A (c 1)) (zn_A (c 2)) (zn_A (c 3)) (zn_A (c 4)) (zn_A (c 5)) (zn_A (c 6)) (zn_A (c 7)) (zn_A (c 8)) (zn_A (c 9)) (zn_A (c 10)) a_active a_last a_logs a_logSize a_enabled a_taken a_exited a_by a_before a_here a_next) : ∀ r e, e + r = ev → wY_build_42 post J (nI i) (r + 1) (nI k) (nI e) f_maxStates f_maxTransitions (nI ev) (nI mx) f_phase (nI (zs_n c)) (nI (zs_q c)) f_found (zn_A (c 0)) (zn_A (c 1)) (zn_A (c 2)) (zn_A (c 3)) (zn_A (c 4)) (zn_A (c 5)) (zn_A (c 6)) (zn_A (c 7)) (zn_A (c 8)) (zn_A (c 9)) (zn_A (c 10)) a_active a_last a_logs a_logSize a_enabled a_taken a_exited a_by a_before a_here a_next := by
  intro r
  induction r with
  | zero =>
    intro e he
    exact br_t (nI_le (by omega) (by omega)) (nm_r (nI_1 i) hJ)
  | succ r ih =>
    intro e he
    exact br_f (nI_ge (by omega) (by omega)) (br_t (nI_le hk hi) (nm_r (nI_1 e) (ih (e + 1) (by omega))))
theorem zy_b42 {post : Int32 → SY → Prop} {J : zy_JB} {i : Nat} {act0 last0 lg0 ll0 : Nat → Int32} (hG : zs_G c ev) (hmx : mx ≤ 16) : ∀ r e (w : zb_St) (act last lg ll en tk ex byA bef : Nat → Int32), e + r = ev → zb_V c ev mx i e w → i < w.1 → (∀ j, j < w.1 → zy_S act last (2 + j) (w.2.1 j)) → zy_Q act0 last0 lg0 ll0 act last lg ll →
    (zb_E c mx i r e w = none → ∀ act last lg ll en tk ex byA bef : Nat → Int32, zy_Q act0 last0 lg0 ll0 act last lg ll → post (-4) (f_maxStates, f_maxTransitions, nI ev, nI mx, f_phase, nI (zs_n c), nI (zs_q c), f_found, zn_A (c 0), zn_A (c 1), zn_A (c 2), zn_A (c 3), zn_A (c 4), zn_A (c 5), zn_A (c 6), zn_A (c 7), zn_A (c 8), zn_A (c 9), zn_A (c 10), act, last, lg, ll, en, tk, ex, byA, bef, a_here, a_next)) →
    (∀ w', zb_E c mx i r e w = some w' → zb_V c ev mx i ev w' → i < w'.1 → ∀ act last lg ll en tk ex byA bef : Nat → Int32, (∀ j, j < w'.1 → zy_S act last (2 + j) (w'.2.1 j)) → zy_Q act0 last0 lg0 ll0 act last lg ll → J (nI w'.1) (nI (i + 1)) f_maxStates f_maxTransitions (nI ev) (nI mx) f_phase (nI (zs_n c)) (nI (zs_q c)) f_found (zn_A (c 0)) (zn_A (c 1)) (zn_A (c 2)) (zn_A (c 3)) (zn_A (c 4)) (zn_A (c 5)) (zn_A (c 6)) (zn_A (c 7)) (zn_A (c 8)) (zn_A (c 9)) (zn_A (c 10)) act last lg ll en tk ex byA bef a_here a_next) →
    wY_build_42 post J (nI i) (r + 1) (nI w.1) (nI e) f_maxStates f_maxTransitions (nI ev) (nI mx) f_phase (nI (zs_n c)) (nI (zs_q c)) f_found (zn_A (c 0)) (zn_A (c 1)) (zn_A (c 2)) (zn_A (c 3)) (zn_A (c 4)) (zn_A (c 5)) (zn_A (c 6)) (zn_A (c 7)) (zn_A (c 8)) (zn_A (c 9)) (zn_A (c 10)) act last lg ll en tk ex byA bef a_here a_next := by
  intro r
  have hn := zs_Gn hG
  induction r with
  | zero =>
    intro e w act last lg ll en tk ex byA bef he hV hi hS hQ K0 K1
    have he' : e = ev := by omega
    subst he'
    exact br_t (nI_le (by omega) (by omega)) (nm_r (nI_1 i) (K1 w rfl hV hi act last lg ll en tk ex byA bef hS hQ))
  | succ r ih =>
    intro e w act last lg ll en tk ex byA bef he hV hi hS hQ K0 K1
    have hw16 : w.1 ≤ 16 := by have := hV.1; omega
    have hW : ∀ j, j < w.1 → zs_W c (w.2.1 j) := fun j hj => zs_R_W hG (hV.2.2.1 j hj)
    rw [zb_E_s] at K0 K1
    refine br_f (nI_ge (by omega) (by omega)) (br_f (nI_ge hi (by omega)) ?_)
    refine zy_after (sit := w.2.1) hG hw16 hi (by omega) (fun j hj => ⟨hW j hj, hS j hj⟩) (fun act1 last1 lg1 ll1 en1 tk1 ex1 by1 bef1 k1 k2 k3 k4 => ?_)
    have hQ1 := zy_Q_L (zy_Q_F hQ (by decide) k2) (by decide) k3
    have hS1 : ∀ j, j < w.1 → zy_S act1 last1 (2 + j) (w.2.1 j) := fun j hj => zy_S_F k2 (by omega) (hS j hj)
    rcases zb_fp_sp w.1 w.2.1 (zs_sp c (w.2.1 i) e) with ⟨p1, p2⟩ | ⟨p1, p2⟩
    · have hs : zb_s c mx i e w = some (w.1, w.2.1, w.2.2.1, zn_u w.2.2.2 (i * 4 + e) (zb_fp w.1 w.2.1 (zs_sp c (w.2.1 i) e))) := by
        unfold zb_s
        rw [if_neg (by omega)]
      have a := zb_V_s hn.2.2.2 hV hi (by omega) hs
      have er : zy_r (zb_fp w.1 w.2.1 (zs_sp c (w.2.1 i) e)) w.1 = nI (zb_fp w.1 w.2.1 (zs_sp c (w.2.1 i) e)) := if_neg (by omega)
      rw [hs] at K0 K1
      rw [er]
      refine br_f (nI_pos (by omega)) (nm_r (nI_1 e) ?_)
      exact ih (e + 1) (w.1, w.2.1, w.2.2.1, zn_u w.2.2.2 (i * 4 + e) (zb_fp w.1 w.2.1 (zs_sp c (w.2.1 i) e))) act1 last1 lg1 ll1 en1 tk1 ex1 by1 bef1 (by omega) a.1 hi hS1 hQ1 K0 K1
    · have er : zy_r (zb_fp w.1 w.2.1 (zs_sp c (w.2.1 i) e)) w.1 = -1 := if_pos p1
      rw [er]
      refine br_t (by decide) ?_
      by_cases hm : w.1 < mx
      · have hs : zb_s c mx i e w = some (w.1 + 1, zn_u w.2.1 w.1 (zs_sp c (w.2.1 i) e), zn_u w.2.2.1 w.1 (w.2.2.1 i + 1), zn_u w.2.2.2 (i * 4 + e) w.1) := by
          unfold zb_s
          rw [if_pos p1, if_pos hm]
        have a := zb_V_s hn.2.2.2 hV hi (by omega) hs
        rw [hs] at K0 K1
        refine br_f (fun h => ?_) ?_
        · rw [nI_eq (by omega) (by omega)] at h
          omega
        · have e2 : (2 : Int32) + nI w.1 = nI (2 + w.1) := nI_add 2 w.1
          rw [e2]
          refine zy_copy (a := 18) (by decide) (by omega) (by omega) k1 (fun act2 last2 g1 g2 => ?_)
          refine nm_r (nI_1 _) (nm_r (nI_1 e) ?_)
          refine ih (e + 1) (w.1 + 1, zn_u w.2.1 w.1 (zs_sp c (w.2.1 i) e), zn_u w.2.2.1 w.1 (w.2.2.1 i + 1), zn_u w.2.2.2 (i * 4 + e) w.1) act2 last2 lg1 ll1 en1 tk1 ex1 by1 bef1 (by omega) a.1 (by show i < w.1 + 1; omega) (fun j hj => ?_) (zy_Q_F hQ1 (by omega) g2) K0 K1
          have hj' : j < w.1 + 1 := hj
          show zy_S act2 last2 (2 + j) (zn_u w.2.1 w.1 (zs_sp c (w.2.1 i) e) j)
          by_cases e1 : j = w.1
          · rw [e1, zn_us]; exact g1
          · rw [zn_un e1]; exact zy_S_F g2 (by omega) (hS1 j (by omega))
      · have hs : zb_s c mx i e w = none := by
          unfold zb_s
          rw [if_pos p1, if_neg hm]
        rw [hs] at K0
        refine br_t ?_ (K0 rfl act1 last1 lg1 ll1 en1 tk1 ex1 by1 bef1 hQ1)
        have := hV.1
        exact congrArg nI (by omega)
theorem zb_V_up {i : Nat} {w : zb_St} (h : zb_V c ev mx i 0 w) (hw : w.1 ≤ i) : zb_V c ev mx (i + 1) 0 w := by
  obtain ⟨h1, h2, h3, h4, h5, h6, h7, h8⟩ := h
  exact ⟨h1, h2, h3, h4, fun i' e' he' hi' hw' => h5 i' e' he' (by omega) hw', h6, h7, fun hi => by omega⟩
theorem zy_b32 {post : Int32 → SY → Prop} {act0 last0 lg0 ll0 : Nat → Int32} (hG : zs_G c ev) (hmx : mx ≤ 16) : ∀ r i (w : zb_St) (act last lg ll en tk ex byA bef : Nat → Int32), i + r = mx → zb_V c ev mx i 0 w → (∀ j, j < w.1 → zy_S act last (2 + j) (w.2.1 j)) → zy_Q act0 last0 lg0 ll0 act last lg ll →
    (zb_I c mx ev (16 - i) i w = none → ∀ act last lg ll en tk ex byA bef : Nat → Int32, zy_Q act0 last0 lg0 ll0 act last lg ll → post (-4) (f_maxStates, f_maxTransitions, nI ev, nI mx, f_phase, nI (zs_n c), nI (zs_q c), f_found, zn_A (c 0), zn_A (c 1), zn_A (c 2), zn_A (c 3), zn_A (c 4), zn_A (c 5), zn_A (c 6), zn_A (c 7), zn_A (c 8), zn_A (c 9), zn_A (c 10), act, last, lg, ll, en, tk, ex, byA, bef, a_here, a_next)) →
    (∀ w', zb_I c mx ev (16 - i) i w = some w' → ∀ act1 last1 lg1 ll1 en tk ex bef act' last' lg' ll' by' : Nat → Int32, zy_Q act0 last0 lg0 ll0 act1 last1 lg1 ll1 → zy_F 1 act1 last1 act' last' → zl_fr 1 lg1 ll1 lg' ll' → zy_S act' last' 1 (zs_z0 c) → zl_ok ll' lg' 1 (zl_LOG c 0 0 (zs_st c).1) → (∀ j, j < w'.1 → zy_S act' last' (2 + j) (w'.2.1 j)) → post (nI w'.1) (f_maxStates, f_maxTransitions, nI ev, nI mx, 2, nI (zs_n c), nI (zs_q c), nI w'.1, zn_A (c 0), zn_A (c 1), zn_A (c 2), zn_A (c 3), zn_A (c 4), zn_A (c 5), zn_A (c 6), zn_A (c 7), zn_A (c 8), zn_A (c 9), zn_A (c 10), act', last', lg', ll', en, tk, ex, by', bef, a_here, a_next)) →
    wY_build_32 post (r + 1) (nI w.1) (nI i) f_maxStates f_maxTransitions (nI ev) (nI mx) f_phase (nI (zs_n c)) (nI (zs_q c)) f_found (zn_A (c 0)) (zn_A (c 1)) (zn_A (c 2)) (zn_A (c 3)) (zn_A (c 4)) (zn_A (c 5)) (zn_A (c 6)) (zn_A (c 7)) (zn_A (c 8)) (zn_A (c 9)) (zn_A (c 10)) act last lg ll en tk ex byA bef a_here a_next := by
  intro r
  have hn := zs_Gn hG
  induction r with
  | zero =>
    intro i w act last lg ll en tk ex byA bef hi hV hS hQ K0 K1
    have hw : w.1 ≤ i := by have := hV.1; omega
    refine br_t (nI_le (by omega) (by omega)) ?_
    refine zy_start (m := 1) hG (by decide) (fun act' last' lg' ll' by' h1 h2 h3 h4 => ?_)
    exact K1 w (zb_I_e hw) act last lg ll en tk ex bef act' last' lg' ll' by' hQ h3 h4 h1 h2 (fun j hj => zy_S_F h3 (by omega) (hS j hj))
  | succ r ih =>
    intro i w act last lg ll en tk ex byA bef hi hV hS hQ K0 K1
    refine br_f (nI_ge (by omega) (by omega)) ⟨ev + 1, ?_⟩
    by_cases hw : w.1 ≤ i
    · rw [zb_I_e hw] at K0 K1
      refine zy_b42s hn.2.2.2 hw (by omega) ?_ ev 0 (Nat.zero_add _)
      refine ih (i + 1) w act last lg ll en tk ex byA bef (by omega) (zb_V_up hV hw) hS hQ ?_ ?_
      · rw [zb_I_e (by omega)]; exact K0
      · rw [zb_I_e (by omega)]; exact K1
    · rw [show 16 - i = (16 - (i + 1)) + 1 from by omega, zb_I_s hw] at K0 K1
      refine zy_b42 hG hmx ev 0 w act last lg ll en tk ex byA bef (Nat.zero_add _) hV (by omega) hS hQ (fun hE => ?_) (fun w' hE hV' hi' act2 last2 lg2 ll2 en2 tk2 ex2 by2 bef2 hS2 hQ2 => ?_)
      · rw [hE] at K0
        exact K0 rfl
      · rw [hE] at K0 K1
        exact ih (i + 1) w' act2 last2 lg2 ll2 en2 tk2 ex2 by2 bef2 (by omega) (zb_V_i hV') hS2 hQ2 K0 K1
theorem zy_bld {post : Int32 → SY → Prop} {act last lg ll : Nat → Int32} (hG : zs_G c ev) (hm1 : 1 ≤ mx) (hmx : mx ≤ 16)
    (K0 : zb_I c mx ev 16 0 (zb_0 c) = none → ∀ act' last' lg' ll' en tk ex byA bef : Nat → Int32, zy_Q act last lg ll act' last' lg' ll' → post (-4) (f_maxStates, f_maxTransitions, nI ev, nI mx, 1, nI (zs_n c), nI (zs_q c), f_found, zn_A (c 0), zn_A (c 1), zn_A (c 2), zn_A (c 3), zn_A (c 4), zn_A (c 5), zn_A (c 6), zn_A (c 7), zn_A (c 8), zn_A (c 9), zn_A (c 10), act', last', lg', ll', en, tk, ex, byA, bef, a_here, a_next))
    (K1 : ∀ w', zb_I c mx ev 16 0 (zb_0 c) = some w' → ∀ act1 last1 lg1 ll1 en tk ex bef act' last' lg' ll' by' : Nat → Int32, zy_Q act last lg ll act1 last1 lg1 ll1 → zy_F 1 act1 last1 act' last' → zl_fr 1 lg1 ll1 lg' ll' → zy_S act' last' 1 (zs_z0 c) → zl_ok ll' lg' 1 (zl_LOG c 0 0 (zs_st c).1) → (∀ j, j < w'.1 → zy_S act' last' (2 + j) (w'.2.1 j)) → post (nI w'.1) (f_maxStates, f_maxTransitions, nI ev, nI mx, 2, nI (zs_n c), nI (zs_q c), nI w'.1, zn_A (c 0), zn_A (c 1), zn_A (c 2), zn_A (c 3), zn_A (c 4), zn_A (c 5), zn_A (c 6), zn_A (c 7), zn_A (c 8), zn_A (c 9), zn_A (c 10), act', last', lg', ll', en, tk, ex, by', bef, a_here, a_next)) :
    wpY_build post (f_maxStates, f_maxTransitions, nI ev, nI mx, 1, nI (zs_n c), nI (zs_q c), f_found, zn_A (c 0), zn_A (c 1), zn_A (c 2), zn_A (c 3), zn_A (c 4), zn_A (c 5), zn_A (c 6), zn_A (c 7), zn_A (c 8), zn_A (c 9), zn_A (c 10), act, last, lg, ll, a_enabled, a_taken, a_exited, a_by, a_before, a_here, a_next) := by
  refine br_f (by decide) (br_f (by decide) ?_)
  refine zy_start (m := 2) hG (by decide) (fun act' last' lg' ll' by' h1 h2 h3 h4 => ⟨mx + 1, ?_⟩)
  refine zy_b32 (act0 := act) (last0 := last) (lg0 := lg) (ll0 := ll) hG hmx mx 0 (zb_0 c) act' last' lg' ll' _ _ _ by' _ (Nat.zero_add _) (zb_V_0 hm1) (fun j hj => ?_) (zy_Q_L (zy_Q_F zy_Q_rf (by decide) h3) (by decide) h4) K0 K1
  have hj' : j < 1 := hj
  have e0 : j = 0 := by omega
  subst e0
  exact h1
end ZYD
end
section
section ZQX
/-! distance, together, firings: the component -/
variable {c d : Nat → Nat → Nat} {ev mx : Nat}
variable {f_maxStates f_maxTransitions f_sealed f_built f_stepTaken f_stepExited f_stepEntered f_place1 f_found : Int32} {f_stepAfter f_situation0 : Int64} {a_log a_logLength a_stepsTo a_nextPlace a_takenAt a_exitedAt a_enteredAt : Nat → Int32} {a_situations : Nat → Int64}
theorem zx_di {post : Int32 → Prop} {s : Nat} {w : zb_St} {sa : Nat → Int64} {st : Nat → Int32} (hs : s < 12) (hw : w.1 ≤ 16) (hA : ∀ j, j < w.1 → sa j = lN (w.2.1 j) ∧ st j = nI (w.2.2.1 j)) (hz : ∀ j, j < w.1 → w.2.1 j < 2 ^ 60) : ∀ r j, j + r = w.1 → post (if zn_fi (fun j => (w.2.1 j).testBit s) w.1 r j = w.1 then -5 else nI (w.2.2.1 (zn_fi (fun j => (w.2.1 j).testBit s) w.1 r j))) → wX_distance_22 post (nI s) f_maxStates f_maxTransitions (nI ev) (nI mx) f_sealed f_built (nI (zs_n c)) (nI (d 6 0)) (nI (zs_q c)) f_stepAfter f_stepTaken f_stepExited f_stepEntered f_situation0 f_place1 (nI w.1) (zn_A (c 0)) (zn_A (c 1)) (zn_A (c 2)) (zn_A (c 3)) (zn_A (c 4)) (zn_A (d 0)) (zn_A (d 1)) (zn_A (d 2)) (zn_A (d 3)) (zn_A (c 5)) (zn_A (c 6)) (zn_A (c 7)) (zn_A (c 8)) (zn_A (c 9)) (zn_A (c 10)) (zn_A (d 4)) (zn_A (d 5)) a_log a_logLength sa st a_nextPlace a_takenAt a_exitedAt a_enteredAt (r + 1) (nI j) := by
  intro r
  induction r with
  | zero =>
    intro j hj hp
    have e : zn_fi (fun j => (w.2.1 j).testBit s) w.1 0 j = w.1 := rfl
    rw [e, if_pos rfl] at hp
    exact br_t (nI_le (by omega) (by omega)) hp
  | succ r ih =>
    intro j hj hp
    have vj : vp_in (nI j) 16 := vp_in_nI (by omega) (by decide)
    refine br_f (nI_ge (by omega) (by omega)) (And.intro vj ?_)
    rw [nI_clamp (show j < 2 ^ 31 by omega), (hA j (by omega)).1, (hA j (by omega)).2]
    refine ek_if (zw_lbit (hz j (by omega)) (by omega)) (fun h => ?_) (fun h => ?_)
    · have h' : (fun j => (w.2.1 j).testBit s) j = false := h
      rw [zn_fi_n (f := fun j => (w.2.1 j).testBit s) h'] at hp
      exact nm_r (nI_1 j) (ih (j + 1) (by omega) hp)
    · have h' : (fun j => (w.2.1 j).testBit s) j = true := zn_bt h
      rw [zn_fi_t (f := fun j => (w.2.1 j).testBit s) h', if_neg (by omega)] at hp
      exact And.intro vj hp
theorem zx_tog {post : Int32 → Prop} {s1 s2 : Nat} {w : zb_St} {sa : Nat → Int64} (h1 : s1 < 12) (h2 : s2 < 12) (hw : w.1 ≤ 16) (hA : ∀ j, j < w.1 → sa j = lN (w.2.1 j)) (hz : ∀ j, j < w.1 → w.2.1 j < 2 ^ 60) (hp : post (nI (zn_c w.1 (fun j => (w.2.1 j).testBit s1 && (w.2.1 j).testBit s2)))) : ∀ r j, j + r = w.1 → wX_together_42 post (((1 : Int64) <<< ((nI s1).toInt64 &&& 63)) ||| ((1 : Int64) <<< ((nI s2).toInt64 &&& 63))) f_maxStates f_maxTransitions (nI ev) (nI mx) f_sealed f_built (nI (zs_n c)) (nI (d 6 0)) (nI (zs_q c)) f_stepAfter f_stepTaken f_stepExited f_stepEntered f_situation0 f_place1 (nI w.1) (zn_A (c 0)) (zn_A (c 1)) (zn_A (c 2)) (zn_A (c 3)) (zn_A (c 4)) (zn_A (d 0)) (zn_A (d 1)) (zn_A (d 2)) (zn_A (d 3)) (zn_A (c 5)) (zn_A (c 6)) (zn_A (c 7)) (zn_A (c 8)) (zn_A (c 9)) (zn_A (c 10)) (zn_A (d 4)) (zn_A (d 5)) a_log a_logLength sa a_stepsTo a_nextPlace a_takenAt a_exitedAt a_enteredAt (r + 1) (nI (zn_c j (fun j => (w.2.1 j).testBit s1 && (w.2.1 j).testBit s2))) (nI j) := by
  intro r
  induction r with
  | zero =>
    intro j hj
    have e : j = w.1 := by omega
    subst e
    exact br_t (nI_le (by omega) (by omega)) hp
  | succ r ih =>
    intro j hj
    have h := ih (j + 1) (by omega)
    rw [zn_c_s] at h
    refine br_f (nI_ge (by omega) (by omega)) (And.intro (vp_in_nI (by omega) (by decide)) ?_)
    rw [nI_clamp (show j < 2 ^ 31 by omega), hA j (by omega)]
    refine ek_if (zw_both (hz j (by omega)) h1 h2) (fun hb => ?_) (fun hb => ?_)
    · rw [hb] at h
      exact nm_r (nI_1 _) (nm_r (nI_1 j) h)
    · rw [zn_bf hb] at h
      exact nm_r (nI_1 j) h
theorem zx_fir {post : Int32 → Prop} {t : Nat} {w : zb_St} {ta : Nat → Int32} (hG : zs_G c ev) (ht : t < zs_q c) (hw : w.1 ≤ 16) (hT : ∀ j, j < w.1 → ta (j * 4 + c 6 t) = nI (zs_tkm c (w.2.1 j) (c 6 t))) (hp : post (nI (zn_c w.1 (fun j => zs_TK c (w.2.1 j) (c 6 t) t)))) : ∀ r j, j + r = w.1 → wX_firings_24 post (nI t) f_maxStates f_maxTransitions (nI ev) (nI mx) f_sealed f_built (nI (zs_n c)) (nI (d 6 0)) (nI (zs_q c)) f_stepAfter f_stepTaken f_stepExited f_stepEntered f_situation0 f_place1 (nI w.1) (zn_A (c 0)) (zn_A (c 1)) (zn_A (c 2)) (zn_A (c 3)) (zn_A (c 4)) (zn_A (d 0)) (zn_A (d 1)) (zn_A (d 2)) (zn_A (d 3)) (zn_A (c 5)) (zn_A (c 6)) (zn_A (c 7)) (zn_A (c 8)) (zn_A (c 9)) (zn_A (c 10)) (zn_A (d 4)) (zn_A (d 5)) a_log a_logLength a_situations a_stepsTo a_nextPlace ta a_exitedAt a_enteredAt (r + 1) (nI (zn_c j (fun j => zs_TK c (w.2.1 j) (c 6 t) t))) (nI j) := by
  intro r
  have hn := zs_Gn hG
  have a2 := (zs_Gt hG ht).2.1
  induction r with
  | zero =>
    intro j hj
    have e : j = w.1 := by omega
    subst e
    exact br_t (nI_le (by omega) (by omega)) hp
  | succ r ih =>
    intro j hj
    have h := ih (j + 1) (by omega)
    rw [zn_c_s] at h
    have e4 : nI j * 4 + nI (c 6 t) = nI (j * 4 + c 6 t) := by
      show nI j * nI 4 + nI (c 6 t) = _
      rw [pk_mul, nI_add]
    have e5 : nI (zn_c j (fun j => zs_TK c (w.2.1 j) (c 6 t) t)) + ((nI (zs_tkm c (w.2.1 j) (c 6 t)) >>> (nI t &&& 31)) &&& 1) = nI (zn_c j (fun j => zs_TK c (w.2.1 j) (c 6 t) t) + (zs_TK c (w.2.1 j) (c 6 t) t).toNat) := by
      unfold zs_tkm
      rw [zw_shr (i := t) (zn_mk_31 hn.2.2.1 _) (by omega), nI_add, zn_mk_in ht]
    refine br_f (nI_ge (by omega) (by omega)) (And.intro (vp_in_nI (by omega) (by decide)) ?_)
    rw [zn_rd (c 6) (show t < 2 ^ 31 by omega), e4, nI_clamp (show j * 4 + c 6 t < 2 ^ 31 by omega), hT j (by omega)]
    exact And.intro (vp_in_nI (by omega) (by decide)) (nm_r e5 (nm_r (nI_1 j) h))
end ZQX
section ZQY
/-! distance, together, firings: the reference -/
/-- the listed situations stand in their slots; slots 0 and 1 are as they were -/
def zy_M (w : zb_St) (act0 last0 lg0 ll0 act last lg ll : Nat → Int32) : Prop := (∀ j, j < w.1 → zy_S act last (2 + j) (w.2.1 j)) ∧ zy_Q act0 last0 lg0 ll0 act last lg ll
theorem zy_M_18 {w : zb_St} {act0 last0 lg0 ll0 act last lg ll act' last' lg' ll' : Nat → Int32} (h : zy_M w act0 last0 lg0 ll0 act last lg ll) (hw : w.1 ≤ 16) (hF : zy_F 18 act last act' last') (hL : zl_fr 18 lg ll lg' ll') : zy_M w act0 last0 lg0 ll0 act' last' lg' ll' :=
  ⟨fun j hj => zy_S_F hF (by omega) (h.1 j hj), zy_Q_L (zy_Q_F h.2 (by decide) hF) (by decide) hL⟩
variable {c : Nat → Nat → Nat} {ev mx : Nat}
variable {w : zb_St} {f_maxStates f_maxTransitions f_phase : Int32} {a_active a_last a_logs a_logSize a_enabled a_taken a_exited a_by a_before a_here a_next : Nat → Int32}
theorem zy_tog {post : Int32 → Prop} {s1 s2 : Nat} (h1 : s1 < 12) (h2 : s2 < 12) (hw : w.1 ≤ 16) (hS : ∀ j, j < w.1 → zy_S a_active a_last (2 + j) (w.2.1 j)) (hp : post (nI (zn_c w.1 (fun j => (w.2.1 j).testBit s1 && (w.2.1 j).testBit s2)))) : ∀ r j, j + r = w.1 → wY_together_42 post (nI s1) (nI s2) f_maxStates f_maxTransitions (nI ev) (nI mx) f_phase (nI (zs_n c)) (nI (zs_q c)) (nI w.1) (zn_A (c 0)) (zn_A (c 1)) (zn_A (c 2)) (zn_A (c 3)) (zn_A (c 4)) (zn_A (c 5)) (zn_A (c 6)) (zn_A (c 7)) (zn_A (c 8)) (zn_A (c 9)) (zn_A (c 10)) a_active a_last a_logs a_logSize a_enabled a_taken a_exited a_by a_before a_here a_next (r + 1) (nI (zn_c j (fun j => (w.2.1 j).testBit s1 && (w.2.1 j).testBit s2))) (nI (2 + j)) := by
  intro r
  have ef : (2 : Int32) + nI w.1 = nI (2 + w.1) := nI_add 2 w.1
  induction r with
  | zero =>
    intro j hj
    have e : j = w.1 := by omega
    subst e
    exact br_t (by rw [ef]; exact nI_le (by omega) (by omega)) hp
  | succ r ih =>
    intro j hj
    have h := ih (j + 1) (by omega)
    rw [zn_c_s] at h
    have s := hS j (by omega)
    refine br_f (by rw [ef]; exact nI_ge (by omega) (by omega)) ?_
    rw [zy_i12, zy_i12, nI_clamp (show (2 + j) * 12 + s1 < 2 ^ 31 by omega), nI_clamp (show (2 + j) * 12 + s2 < 2 ^ 31 by omega), (s s1 h1).1, (s s2 h2).1]
    refine And.intro (vp_in_nI (by omega) (by decide)) (ek_if zn_b0 (fun hb => ?_) (fun hb => ?_))
    · rw [hb, Bool.false_and] at h
      exact nm_r (nI_1 _) h
    · refine And.intro (vp_in_nI (by omega) (by decide)) (ek_if zn_b0 (fun hb2 => ?_) (fun hb2 => ?_))
      · rw [hb2, Bool.and_false] at h
        exact nm_r (nI_1 _) h
      · rw [zn_bt hb, zn_bt hb2] at h
        exact nm_r (nI_1 _) (nm_r (nI_1 _) h)
theorem zy_fir {post : Int32 → SY → Prop} {t : Nat} {act0 last0 lg0 ll0 : Nat → Int32} (hG : zs_G c ev) (ht : t < zs_q c) (hw : w.1 ≤ 16) (hW : ∀ j, j < w.1 → zs_W c (w.2.1 j)) (K : ∀ act last lg ll en tk ex byA bef : Nat → Int32, zy_M w act0 last0 lg0 ll0 act last lg ll → post (nI (zn_c w.1 (fun j => zs_TK c (w.2.1 j) (c 6 t) t))) (f_maxStates, f_maxTransitions, nI ev, nI mx, f_phase, nI (zs_n c), nI (zs_q c), nI w.1, zn_A (c 0), zn_A (c 1), zn_A (c 2), zn_A (c 3), zn_A (c 4), zn_A (c 5), zn_A (c 6), zn_A (c 7), zn_A (c 8), zn_A (c 9), zn_A (c 10), act, last, lg, ll, en, tk, ex, byA, bef, a_here, a_next)) : ∀ r j (act last lg ll en tk ex byA bef : Nat → Int32), j + r = w.1 → zy_M w act0 last0 lg0 ll0 act last lg ll → wY_firings_29 post (nI t) (r + 1) (nI (zn_c j (fun j => zs_TK c (w.2.1 j) (c 6 t) t))) (nI j) f_maxStates f_maxTransitions (nI ev) (nI mx) f_phase (nI (zs_n c)) (nI (zs_q c)) (nI w.1) (zn_A (c 0)) (zn_A (c 1)) (zn_A (c 2)) (zn_A (c 3)) (zn_A (c 4)) (zn_A (c 5)) (zn_A (c 6)) (zn_A (c 7)) (zn_A (c 8)) (zn_A (c 9)) (zn_A (c 10)) act last lg ll en tk ex byA bef a_here a_next := by
  intro r
  have hn := zs_Gn hG
  have vt : vp_in (nI t) 16 := vp_in_nI (by omega) (by decide)
  induction r with
  | zero =>
    intro j act last lg ll en tk ex byA bef hj hM
    have e : j = w.1 := by omega
    subst e
    exact br_t (nI_le (by omega) (by omega)) (K act last lg ll en tk ex byA bef hM)
  | succ r ih =>
    intro j act last lg ll en tk ex byA bef hj hM
    refine br_f (nI_ge (by omega) (by omega)) (And.intro vt ?_)
    rw [zn_rd (c 6) (show t < 2 ^ 31 by omega), nI_clamp (show t < 2 ^ 31 by omega)]
    refine zy_after (sit := w.2.1) hG hw (by omega) (zs_Gb hG 6 t) (fun x hx => ⟨hW x hx, hM.1 x hx⟩) (fun act1 last1 lg1 ll1 en1 tk1 ex1 by1 bef1 k1 k2 k3 k4 => ?_)
    have h := ih (j + 1) act1 last1 lg1 ll1 en1 tk1 ex1 by1 bef1 (by omega) (zy_M_18 hM hw k2 k3)
    rw [zn_c_s] at h
    refine And.intro vt ?_
    rw [k4 t ht]
    refine ek_if zn_b0 (fun hb => ?_) (fun hb => ?_)
    · rw [hb] at h
      exact nm_r (nI_1 j) h
    · rw [zn_bt hb] at h
      exact nm_r (nI_1 _) (nm_r (nI_1 j) h)
/-! distance -/
abbrev zy_JD : Type := Int32 → Int32 → Int32 → Int32 → Int32 → Int32 → Int32 → Int32 → zy_J
def zb_N (ev : Nat) (w : zb_St) (k i e j : Nat) : Bool := zn_any i (fun x => zb_H ev w k x && zn_any ev (fun y => decide (w.2.2.2 (x * 4 + y) = j))) || (zb_H ev w k i && zn_any e (fun y => decide (w.2.2.2 (i * 4 + y) = j)))
theorem zb_N_i (ev k i j : Nat) : zb_N ev w k i ev j = zb_N ev w k (i + 1) 0 j := by
  unfold zb_N
  rw [zn_any_s]
  show _ = (_ || (_ && false))
  rw [Bool.and_false, Bool.or_false]
theorem zb_N_e (ev k i e j : Nat) : zb_N ev w k i (e + 1) j = (zb_N ev w k i e j || (zb_H ev w k i && decide (w.2.2.2 (i * 4 + e) = j))) := by
  unfold zb_N
  rw [zn_any_s, Bool.and_or_distrib_left, Bool.or_assoc]
theorem zb_N_0 (ev k j : Nat) : zb_N ev w k 0 0 j = false := by
  unfold zb_N
  show (false || (_ && false)) = false
  rw [Bool.and_false, Bool.or_false]
theorem zb_N_k (ev k j : Nat) : zb_N ev w k w.1 0 j = zb_H ev w (k + 1) j := by
  unfold zb_N
  show (_ || (_ && false)) = _
  rw [Bool.and_false, Bool.or_false]
  rfl
theorem zb_fpn (h : zb_C c ev mx w) {i e : Nat} (hi : i < w.1) (he : e < ev) : zb_fp w.1 w.2.1 (zs_sp c (w.2.1 i) e) = w.2.2.2 (i * 4 + e) ∧ w.2.2.2 (i * 4 + e) < w.1 := by
  obtain ⟨n, hn, h1, h2, h3, h4, h5, h6, h7, h8⟩ := h
  have a := h5 i e he (by omega) hi
  rcases zb_fp_sp w.1 w.2.1 (zs_sp c (w.2.1 i) e) with ⟨p1, p2⟩ | ⟨p1, p2⟩
  · exact ⟨h4 _ _ p1 a.1 (by rw [p2, a.2.1]), a.1⟩
  · exact absurd a.2.1 (p2 _ a.1)
theorem zy_d207 {post : Int32 → SY → Prop} {J : zy_JD} {x1 : Int32} {k : Nat} {B : Nat → Bool} {ne : Nat → Int32} (hw : w.1 ≤ 16) (hne : ∀ j, j < w.1 → ne j = zn_b (B j)) (K : ∀ he : Nat → Int32, (∀ j, j < w.1 → he j = zn_b (B j)) → J (nI (k + 1)) f_maxStates f_maxTransitions (nI ev) (nI mx) f_phase (nI (zs_n c)) (nI (zs_q c)) (nI w.1) (zn_A (c 0)) (zn_A (c 1)) (zn_A (c 2)) (zn_A (c 3)) (zn_A (c 4)) (zn_A (c 5)) (zn_A (c 6)) (zn_A (c 7)) (zn_A (c 8)) (zn_A (c 9)) (zn_A (c 10)) a_active a_last a_logs a_logSize a_enabled a_taken a_exited a_by a_before he ne) : ∀ r i (he : Nat → Int32), i + r = w.1 → (∀ j, j < i → he j = zn_b (B j)) → wY_distance_207 post J x1 (nI k) f_maxStates f_maxTransitions (nI ev) (nI mx) f_phase (nI (zs_n c)) (nI (zs_q c)) (nI w.1) (r + 1) (nI i) (zn_A (c 0)) (zn_A (c 1)) (zn_A (c 2)) (zn_A (c 3)) (zn_A (c 4)) (zn_A (c 5)) (zn_A (c 6)) (zn_A (c 7)) (zn_A (c 8)) (zn_A (c 9)) (zn_A (c 10)) a_active a_last a_logs a_logSize a_enabled a_taken a_exited a_by a_before he ne := by
  intro r
  induction r with
  | zero =>
    intro i he hi h
    have e : i = w.1 := by omega
    subst e
    exact br_t (nI_le (by omega) (by omega)) (nm_r (nI_1 k) (K he h))
  | succ r ih =>
    intro i he hi h
    have vi : vp_in (nI i) 16 := vp_in_nI (by omega) (by decide)
    refine br_f (nI_ge (by omega) (by omega)) (And.intro vi (And.intro vi ?_))
    rw [nI_clamp (show i < 2 ^ 31 by omega), hne i (by omega), zn_bn]
    refine nm_e (nm_r (nI_1 i) (ih (i + 1) _ (by omega) (fun j hj => ?_)))
    by_cases e : j = i
    · rw [e, pk_us]
    · rw [pk_un e]; exact h j (by omega)
theorem zy_d145 {post : Int32 → SY → Prop} {J58 J : zy_JD} {x1 x2 : Int32} {k i : Nat} {act0 last0 lg0 ll0 he : Nat → Int32} (hG : zs_G c ev) (hC : zb_C c ev mx w) (hw : w.1 ≤ 16) (hW : ∀ j, j < w.1 → zs_W c (w.2.1 j)) (hi : i < w.1) (hhe : ∀ j, j < w.1 → he j = zn_b (zb_H ev w k j)) (K : ∀ act last lg ll en tk ex byA bef ne : Nat → Int32, zy_M w act0 last0 lg0 ll0 act last lg ll → (∀ j, j < w.1 → ne j = zn_b (zb_N ev w k i ev j)) → J (nI (i + 1)) f_maxStates f_maxTransitions (nI ev) (nI mx) f_phase (nI (zs_n c)) (nI (zs_q c)) (nI w.1) (zn_A (c 0)) (zn_A (c 1)) (zn_A (c 2)) (zn_A (c 3)) (zn_A (c 4)) (zn_A (c 5)) (zn_A (c 6)) (zn_A (c 7)) (zn_A (c 8)) (zn_A (c 9)) (zn_A (c 10)) act last lg ll en tk ex byA bef he ne) : ∀ r e (act last lg ll en tk ex byA bef ne : Nat → Int32), e + r = ev → zy_M w act0 last0 lg0 ll0 act last lg ll → (∀ j, j < w.1 → ne j = zn_b (zb_N ev w k i e j)) → wY_distance_145 post J58 J x1 x2 (nI i) (r + 1) (nI e) f_maxStates f_maxTransitions (nI ev) (nI mx) f_phase (nI (zs_n c)) (nI (zs_q c)) (nI w.1) (zn_A (c 0)) (zn_A (c 1)) (zn_A (c 2)) (zn_A (c 3)) (zn_A (c 4)) (zn_A (c 5)) (zn_A (c 6)) (zn_A (c 7)) (zn_A (c 8)) (zn_A (c 9)) (zn_A (c 10)) act last lg ll en tk ex byA bef he ne := by
  intro r
  have hn := zs_Gn hG
  induction r with
  | zero =>
    intro e act last lg ll en tk ex byA bef ne hr hM hN
    have e' : e = ev := by omega
    subst e'
    exact br_t (nI_le (by omega) (by omega)) (nm_r (nI_1 i) (K act last lg ll en tk ex byA bef ne hM hN))
  | succ r ih =>
    intro e act last lg ll en tk ex byA bef ne hr hM hN
    refine br_f (nI_ge (by omega) (by omega)) (And.intro (vp_in_nI (by omega) (by decide)) ?_)
    rw [nI_clamp (show i < 2 ^ 31 by omega), hhe i hi]
    refine ek_if zn_b0 (fun hb => ?_) (fun hb => ?_)
    · unfold wY_distance_178
      refine br_t (by decide) (nm_r (nI_1 e) (ih (e + 1) act last lg ll en tk ex byA bef ne (by omega) hM (fun j hj => ?_)))
      rw [hN j hj, zb_N_e, hb, Bool.false_and, Bool.or_false]
    · refine zy_after (sit := w.2.1) hG hw hi (by omega) (fun x hx => ⟨hW x hx, hM.1 x hx⟩) (fun act1 last1 lg1 ll1 en1 tk1 ex1 by1 bef1 k1 k2 k3 k4 => ?_)
      have f := zb_fpn hC hi (show e < ev by omega)
      have er : zy_r (zb_fp w.1 w.2.1 (zs_sp c (w.2.1 i) e)) w.1 = nI (w.2.2.2 (i * 4 + e)) := by
        rw [f.1]
        exact if_neg (by omega)
      rw [er]
      unfold wY_distance_178
      refine br_f (nI_pos (by omega)) (And.intro (vp_in_nI (by omega) (by decide)) ?_)
      rw [nI_clamp (show w.2.2.2 (i * 4 + e) < 2 ^ 31 by omega), zn_bn1]
      refine nm_e (nm_r (nI_1 e) (ih (e + 1) act1 last1 lg1 ll1 en1 tk1 ex1 by1 bef1 _ (by omega) (zy_M_18 hM hw k2 k3) (fun j hj => ?_)))
      rw [zb_N_e, zn_bt hb, Bool.true_and]
      by_cases e1 : j = w.2.2.2 (i * 4 + e)
      · rw [e1, pk_us, decide_eq_true rfl, Bool.or_true]
      · rw [pk_un e1, hN j hj, decide_eq_false (fun h => e1 h.symm), Bool.or_false]
theorem zy_d134 {post : Int32 → SY → Prop} {J : zy_JD} {x1 : Int32} {k : Nat} {act0 last0 lg0 ll0 he : Nat → Int32} (hG : zs_G c ev) (hC : zb_C c ev mx w) (hw : w.1 ≤ 16) (hW : ∀ j, j < w.1 → zs_W c (w.2.1 j)) (hhe : ∀ j, j < w.1 → he j = zn_b (zb_H ev w k j)) (K : ∀ act last lg ll en tk ex byA bef he' ne : Nat → Int32, zy_M w act0 last0 lg0 ll0 act last lg ll → (∀ j, j < w.1 → he' j = zn_b (zb_H ev w (k + 1) j)) → J (nI (k + 1)) f_maxStates f_maxTransitions (nI ev) (nI mx) f_phase (nI (zs_n c)) (nI (zs_q c)) (nI w.1) (zn_A (c 0)) (zn_A (c 1)) (zn_A (c 2)) (zn_A (c 3)) (zn_A (c 4)) (zn_A (c 5)) (zn_A (c 6)) (zn_A (c 7)) (zn_A (c 8)) (zn_A (c 9)) (zn_A (c 10)) act last lg ll en tk ex byA bef he' ne) : ∀ r i (act last lg ll en tk ex byA bef ne : Nat → Int32), i + r = w.1 → zy_M w act0 last0 lg0 ll0 act last lg ll → (∀ j, j < w.1 → ne j = zn_b (zb_N ev w k i 0 j)) → wY_distance_134 post J x1 (nI k) (r + 1) (nI i) f_maxStates f_maxTransitions (nI ev) (nI mx) f_phase (nI (zs_n c)) (nI (zs_q c)) (nI w.1) (zn_A (c 0)) (zn_A (c 1)) (zn_A (c 2)) (zn_A (c 3)) (zn_A (c 4)) (zn_A (c 5)) (zn_A (c 6)) (zn_A (c 7)) (zn_A (c 8)) (zn_A (c 9)) (zn_A (c 10)) act last lg ll en tk ex byA bef he ne := by
  intro r
  have hn := zs_Gn hG
  induction r with
  | zero =>
    intro i act last lg ll en tk ex byA bef ne hi hM hN
    have e : i = w.1 := by omega
    subst e
    refine br_t (nI_le (by omega) (by omega)) ⟨w.1 + 1, ?_⟩
    refine zy_d207 (B := fun j => zb_H ev w (k + 1) j) hw (fun j hj => ?_) (fun he' h => K act last lg ll en tk ex byA bef he' ne hM h) w.1 0 he (Nat.zero_add _) (fun j hj => absurd hj (Nat.not_lt_zero j))
    rw [hN j hj, zb_N_k]
  | succ r ih =>
    intro i act last lg ll en tk ex byA bef ne hi hM hN
    refine br_f (nI_ge (by omega) (by omega)) ⟨ev + 1, ?_⟩
    refine zy_d145 (act0 := act0) (last0 := last0) (lg0 := lg0) (ll0 := ll0) hG hC hw hW (by omega) hhe (fun act1 last1 lg1 ll1 en1 tk1 ex1 by1 bef1 ne1 hM1 hN1 => ?_) ev 0 act last lg ll en tk ex byA bef ne (Nat.zero_add _) hM hN
    exact ih (i + 1) act1 last1 lg1 ll1 en1 tk1 ex1 by1 bef1 ne1 (by omega) hM1 (fun j hj => by rw [hN1 j hj, zb_N_i])
theorem zy_d111 {post : Int32 → SY → Prop} {J : zy_JD} {x1 x2 : Int32} (hw : w.1 ≤ 16) (K : ∀ ne : Nat → Int32, (∀ j, j < w.1 → ne j = zn_b false) → ∃ n134 : Nat, wY_distance_134 post J x1 x2 n134 0 f_maxStates f_maxTransitions (nI ev) (nI mx) f_phase (nI (zs_n c)) (nI (zs_q c)) (nI w.1) (zn_A (c 0)) (zn_A (c 1)) (zn_A (c 2)) (zn_A (c 3)) (zn_A (c 4)) (zn_A (c 5)) (zn_A (c 6)) (zn_A (c 7)) (zn_A (c 8)) (zn_A (c 9)) (zn_A (c 10)) a_active a_last a_logs a_logSize a_enabled a_taken a_exited a_by a_before a_here ne) : ∀ r i (ne : Nat → Int32), i + r = w.1 → (∀ j, j < i → ne j = zn_b false) → wY_distance_111 post J x1 x2 f_maxStates f_maxTransitions (nI ev) (nI mx) f_phase (nI (zs_n c)) (nI (zs_q c)) (nI w.1) (r + 1) (nI i) (zn_A (c 0)) (zn_A (c 1)) (zn_A (c 2)) (zn_A (c 3)) (zn_A (c 4)) (zn_A (c 5)) (zn_A (c 6)) (zn_A (c 7)) (zn_A (c 8)) (zn_A (c 9)) (zn_A (c 10)) a_active a_last a_logs a_logSize a_enabled a_taken a_exited a_by a_before a_here ne := by
  intro r
  induction r with
  | zero =>
    intro i ne hi h
    have e : i = w.1 := by omega
    subst e
    exact br_t (nI_le (by omega) (by omega)) (K ne h)
  | succ r ih =>
    intro i ne hi h
    refine br_f (nI_ge (by omega) (by omega)) (And.intro (vp_in_nI (by omega) (by decide)) ?_)
    rw [nI_clamp (show i < 2 ^ 31 by omega), zn_bn0]
    refine nm_e (nm_r (nI_1 i) (ih (i + 1) _ (by omega) (fun j hj => ?_)))
    by_cases e : j = i
    · rw [e, pk_us]
    · rw [pk_un e]; exact h j (by omega)
theorem zy_d68 {post : Int32 → SY → Prop} {J : zy_JD} {s k : Nat} {act last he : Nat → Int32} (hs : s < 12) (hw : w.1 ≤ 16) (hS : ∀ j, j < w.1 → zy_S act last (2 + j) (w.2.1 j)) (hhe : ∀ j, j < w.1 → he j = zn_b (zb_H ev w k j)) (Kh : zb_hit ev w s k = true → post (nI k) (f_maxStates, f_maxTransitions, nI ev, nI mx, f_phase, nI (zs_n c), nI (zs_q c), nI w.1, zn_A (c 0), zn_A (c 1), zn_A (c 2), zn_A (c 3), zn_A (c 4), zn_A (c 5), zn_A (c 6), zn_A (c 7), zn_A (c 8), zn_A (c 9), zn_A (c 10), act, last, a_logs, a_logSize, a_enabled, a_taken, a_exited, a_by, a_before, he, a_next)) (Kn : zb_hit ev w s k = false → ∃ n111 : Nat, wY_distance_111 post J (nI s) (nI k) f_maxStates f_maxTransitions (nI ev) (nI mx) f_phase (nI (zs_n c)) (nI (zs_q c)) (nI w.1) n111 0 (zn_A (c 0)) (zn_A (c 1)) (zn_A (c 2)) (zn_A (c 3)) (zn_A (c 4)) (zn_A (c 5)) (zn_A (c 6)) (zn_A (c 7)) (zn_A (c 8)) (zn_A (c 9)) (zn_A (c 10)) act last a_logs a_logSize a_enabled a_taken a_exited a_by a_before he a_next) : ∀ r i, i + r = w.1 → (∀ j, j < i → (zb_H ev w k j && (w.2.1 j).testBit s) = false) → wY_distance_68 post J (nI s) (nI k) f_maxStates f_maxTransitions (nI ev) (nI mx) f_phase (nI (zs_n c)) (nI (zs_q c)) (nI w.1) (zn_A (c 0)) (zn_A (c 1)) (zn_A (c 2)) (zn_A (c 3)) (zn_A (c 4)) (zn_A (c 5)) (zn_A (c 6)) (zn_A (c 7)) (zn_A (c 8)) (zn_A (c 9)) (zn_A (c 10)) act last a_logs a_logSize a_enabled a_taken a_exited a_by a_before he a_next (r + 1) (nI i) := by
  intro r
  induction r with
  | zero =>
    intro i hi h
    have e : i = w.1 := by omega
    subst e
    exact br_t (nI_le (by omega) (by omega)) (Kn (zn_any_f.mpr h))
  | succ r ih =>
    intro i hi h
    have ei : ((2 : Int32) + nI i) * 12 + nI s = nI ((2 + i) * 12 + s) := by
      rw [show (2 : Int32) + nI i = nI (2 + i) from nI_add 2 i, zy_i12]
    have hnext : (zb_H ev w k i && (w.2.1 i).testBit s) = false → wY_distance_68 post J (nI s) (nI k) f_maxStates f_maxTransitions (nI ev) (nI mx) f_phase (nI (zs_n c)) (nI (zs_q c)) (nI w.1) (zn_A (c 0)) (zn_A (c 1)) (zn_A (c 2)) (zn_A (c 3)) (zn_A (c 4)) (zn_A (c 5)) (zn_A (c 6)) (zn_A (c 7)) (zn_A (c 8)) (zn_A (c 9)) (zn_A (c 10)) act last a_logs a_logSize a_enabled a_taken a_exited a_by a_before he a_next (r + 1) (nI (i + 1)) := by
      intro h1
      refine ih (i + 1) (by omega) (fun j hj => ?_)
      by_cases e : j = i
      · rw [e]; exact h1
      · exact h j (by omega)
    refine br_f (nI_ge (by omega) (by omega)) (And.intro (vp_in_nI (by omega) (by decide)) ?_)
    rw [ei, nI_clamp (show i < 2 ^ 31 by omega), nI_clamp (show (2 + i) * 12 + s < 2 ^ 31 by omega), hhe i (by omega), (hS i (by omega) s hs).1]
    refine ek_if zn_b0 (fun h1 => ?_) (fun h1 => ?_)
    · exact nm_r (nI_1 i) (hnext (by rw [h1]; rfl))
    · refine And.intro (vp_in_nI (by omega) (by decide)) (ek_if zn_b0 (fun h2 => ?_) (fun h2 => ?_))
      · exact nm_r (nI_1 i) (hnext (by rw [h2, Bool.and_false]))
      · exact Kh ((zn_any_t _).mpr ⟨i, by omega, by rw [zn_bt h1, zn_bt h2]; rfl⟩)
theorem zy_d58 {post : Int32 → SY → Prop} {s : Nat} {act0 last0 lg0 ll0 : Nat → Int32} (hG : zs_G c ev) (hC : zb_C c ev mx w) (hw : w.1 ≤ 16) (hW : ∀ j, j < w.1 → zs_W c (w.2.1 j)) (hs : s < 12) : ∀ r k (act last lg ll en tk ex byA bef he ne : Nat → Int32), k + r = w.1 → zy_M w act0 last0 lg0 ll0 act last lg ll → (∀ j, j < w.1 → he j = zn_b (zb_H ev w k j)) → (∀ act last lg ll en tk ex byA bef he ne : Nat → Int32, zy_M w act0 last0 lg0 ll0 act last lg ll → post (zb_Y ev w s r k) (f_maxStates, f_maxTransitions, nI ev, nI mx, f_phase, nI (zs_n c), nI (zs_q c), nI w.1, zn_A (c 0), zn_A (c 1), zn_A (c 2), zn_A (c 3), zn_A (c 4), zn_A (c 5), zn_A (c 6), zn_A (c 7), zn_A (c 8), zn_A (c 9), zn_A (c 10), act, last, lg, ll, en, tk, ex, byA, bef, he, ne)) → wY_distance_58 post (nI s) (r + 1) (nI k) f_maxStates f_maxTransitions (nI ev) (nI mx) f_phase (nI (zs_n c)) (nI (zs_q c)) (nI w.1) (zn_A (c 0)) (zn_A (c 1)) (zn_A (c 2)) (zn_A (c 3)) (zn_A (c 4)) (zn_A (c 5)) (zn_A (c 6)) (zn_A (c 7)) (zn_A (c 8)) (zn_A (c 9)) (zn_A (c 10)) act last lg ll en tk ex byA bef he ne := by
  intro r
  induction r with
  | zero =>
    intro k act last lg ll en tk ex byA bef he ne hk hM hhe K
    exact br_t (nI_le (by omega) (by omega)) (K act last lg ll en tk ex byA bef he ne hM)
  | succ r ih =>
    intro k act last lg ll en tk ex byA bef he ne hk hM hhe K
    have eY : zb_Y ev w s (r + 1) k = if zb_hit ev w s k = true then nI k else zb_Y ev w s r (k + 1) := rfl
    rw [eY] at K
    refine br_f (nI_ge (by omega) (by omega)) ⟨w.1 + 1, ?_⟩
    refine zy_d68 hs hw hM.1 hhe (fun hh => ?_) (fun hh => ⟨w.1 + 1, ?_⟩) w.1 0 (Nat.zero_add _) (fun j hj => absurd hj (Nat.not_lt_zero j))
    · rw [if_pos hh] at K
      exact K act last lg ll en tk ex byA bef he ne hM
    · rw [hh, if_neg (by decide)] at K
      refine zy_d111 hw (fun ne1 hne1 => ⟨w.1 + 1, ?_⟩) w.1 0 ne (Nat.zero_add _) (fun j hj => absurd hj (Nat.not_lt_zero j))
      refine zy_d134 (act0 := act0) (last0 := last0) (lg0 := lg0) (ll0 := ll0) hG hC hw hW hhe (fun act2 last2 lg2 ll2 en2 tk2 ex2 by2 bef2 he2 ne2 hM2 hhe2 => ?_) w.1 0 act last lg ll en tk ex byA bef ne1 (Nat.zero_add _) hM (fun j hj => by rw [hne1 j hj, zb_N_0])
      exact ih (k + 1) act2 last2 lg2 ll2 en2 tk2 ex2 by2 bef2 he2 ne2 (by omega) hM2 hhe2 K
theorem zy_d27 {post : Int32 → SY → Prop} {x1 : Int32} (hw : w.1 ≤ 16) (K : ∀ he : Nat → Int32, (∀ j, j < w.1 → he j = zn_b (decide (j = 0))) → ∃ n58 : Nat, wY_distance_58 post x1 n58 0 f_maxStates f_maxTransitions (nI ev) (nI mx) f_phase (nI (zs_n c)) (nI (zs_q c)) (nI w.1) (zn_A (c 0)) (zn_A (c 1)) (zn_A (c 2)) (zn_A (c 3)) (zn_A (c 4)) (zn_A (c 5)) (zn_A (c 6)) (zn_A (c 7)) (zn_A (c 8)) (zn_A (c 9)) (zn_A (c 10)) a_active a_last a_logs a_logSize a_enabled a_taken a_exited a_by a_before he a_next) : ∀ r i (he : Nat → Int32), i + r = w.1 → (∀ j, j < i → he j = zn_b (decide (j = 0))) → wY_distance_27 post x1 f_maxStates f_maxTransitions (nI ev) (nI mx) f_phase (nI (zs_n c)) (nI (zs_q c)) (nI w.1) (r + 1) (nI i) (zn_A (c 0)) (zn_A (c 1)) (zn_A (c 2)) (zn_A (c 3)) (zn_A (c 4)) (zn_A (c 5)) (zn_A (c 6)) (zn_A (c 7)) (zn_A (c 8)) (zn_A (c 9)) (zn_A (c 10)) a_active a_last a_logs a_logSize a_enabled a_taken a_exited a_by a_before he a_next := by
  intro r
  induction r with
  | zero =>
    intro i he hi h
    have e : i = w.1 := by omega
    subst e
    exact br_t (nI_le (by omega) (by omega)) (K he h)
  | succ r ih =>
    intro i he hi h
    have vi : vp_in (nI i) 16 := vp_in_nI (by omega) (by decide)
    have hnx : wY_distance_27 post x1 f_maxStates f_maxTransitions (nI ev) (nI mx) f_phase (nI (zs_n c)) (nI (zs_q c)) (nI w.1) (r + 1) (nI (i + 1)) (zn_A (c 0)) (zn_A (c 1)) (zn_A (c 2)) (zn_A (c 3)) (zn_A (c 4)) (zn_A (c 5)) (zn_A (c 6)) (zn_A (c 7)) (zn_A (c 8)) (zn_A (c 9)) (zn_A (c 10)) a_active a_last a_logs a_logSize a_enabled a_taken a_exited a_by a_before (upd he i (zn_b (decide (i = 0)))) a_next := by
      refine ih (i + 1) _ (by omega) (fun j hj => ?_)
      by_cases e : j = i
      · rw [e, pk_us]
      · rw [pk_un e]; exact h j (by omega)
    refine br_f (nI_ge (by omega) (by omega)) (ek_if (zn_e0 (by omega)) (fun h0 => ?_) (fun h0 => ?_))
    · rw [decide_eq_true h0] at hnx
      refine And.intro vi ?_
      rw [nI_clamp (show i < 2 ^ 31 by omega), zn_bn1]
      exact nm_e (nm_r (nI_1 i) hnx)
    · rw [decide_eq_false h0] at hnx
      refine And.intro vi ?_
      rw [nI_clamp (show i < 2 ^ 31 by omega), zn_bn0]
      exact nm_e (nm_r (nI_1 i) hnx)
end ZQY
end
section
section ZRL
/-! the relation -/
def zr_s : Nat → Int32
  | 0 => 0
  | _ + 1 => 1
def zr_b : Nat → Int32
  | 2 => 1
  | _ => 0
/-- the chart, its limits and the component's derived tables -/
def zr_C (c d : Nat → Nat → Nat) (ms mt ev mx : Nat) : Prop := zs_G c ev ∧ zx_D c d ∧ zs_n c ≤ ms ∧ ms ≤ 12 ∧ zs_q c ≤ mt ∧ mt ≤ 16 ∧ 1 ≤ ev ∧ 1 ≤ mx ∧ mx ≤ 16
/-- the logs of the two machines -/
def zr_L (ll lg ls lo : Nat → Int32) : Prop := ∀ m, m < 2 → ∃ l, zl_ok ll lg m l ∧ zl_ok ls lo m l
/-- the machines -/
def zr_P (c : Nat → Nat → Nat) (ev mx ph : Nat) (s0 : Int64) (p1 ff gf : Int32) (sa : Nat → Int64) (st np ta ea na act last : Nat → Int32) : Prop :=
  ph ≤ 2 ∧
  (1 ≤ ph → ∃ z, s0 = lN z ∧ zs_R c ev z ∧ zy_S act last 0 z) ∧
  (ph = 2 → ∃ (w : zb_St) (p : Nat), zb_C c ev mx w ∧ ff = nI w.1 ∧ gf = nI w.1 ∧ p1 = nI p ∧ p < w.1 ∧ zx_T c ev w sa st np ta ea na ∧ (∀ j, j < w.1 → zy_S act last (2 + j) (w.2.1 j)) ∧ zy_S act last 1 (w.2.1 p))
def i_Rel (_ : Nat) (u : SX) (v : SY) : Prop :=
  ∃ (c d : Nat → Nat → Nat) (ms mt ev mx ph : Nat) (f_stepAfter : Int64) (f_stepTaken f_stepExited f_stepEntered : Int32) (f_situation0 : Int64) (f_place1 f_found g_found : Int32) (a_log a_logLength : Nat → Int32) (a_situations : Nat → Int64) (a_stepsTo a_nextPlace a_takenAt a_exitedAt a_enteredAt a_active a_last a_logs a_logSize a_enabled a_taken a_exited a_by a_before a_here a_next : Nat → Int32),
    u = (nI ms, nI mt, nI ev, nI mx, zr_s ph, zr_b ph, nI (zs_n c), nI (d 6 0), nI (zs_q c), f_stepAfter, f_stepTaken, f_stepExited, f_stepEntered, f_situation0, f_place1, f_found, zn_A (c 0), zn_A (c 1), zn_A (c 2), zn_A (c 3), zn_A (c 4), zn_A (d 0), zn_A (d 1), zn_A (d 2), zn_A (d 3), zn_A (c 5), zn_A (c 6), zn_A (c 7), zn_A (c 8), zn_A (c 9), zn_A (c 10), zn_A (d 4), zn_A (d 5), a_log, a_logLength, a_situations, a_stepsTo, a_nextPlace, a_takenAt, a_exitedAt, a_enteredAt) ∧ v = (nI ms, nI mt, nI ev, nI mx, nI ph, nI (zs_n c), nI (zs_q c), g_found, zn_A (c 0), zn_A (c 1), zn_A (c 2), zn_A (c 3), zn_A (c 4), zn_A (c 5), zn_A (c 6), zn_A (c 7), zn_A (c 8), zn_A (c 9), zn_A (c 10), a_active, a_last, a_logs, a_logSize, a_enabled, a_taken, a_exited, a_by, a_before, a_here, a_next) ∧ zr_C c d ms mt ev mx ∧ zr_L a_logLength a_log a_logSize a_logs ∧ zr_P c ev mx ph f_situation0 f_place1 f_found g_found a_situations a_stepsTo a_nextPlace a_takenAt a_exitedAt a_enteredAt a_active a_last
theorem zr_el {P : SX → SY → Prop} {k : Nat} {u : SX} {v : SY} (I : i_Rel k u v) (h : ∀ (c d : Nat → Nat → Nat) (ms mt ev mx ph : Nat) (f_stepAfter : Int64) (f_stepTaken f_stepExited f_stepEntered : Int32) (f_situation0 : Int64) (f_place1 f_found g_found : Int32) (a_log a_logLength : Nat → Int32) (a_situations : Nat → Int64) (a_stepsTo a_nextPlace a_takenAt a_exitedAt a_enteredAt a_active a_last a_logs a_logSize a_enabled a_taken a_exited a_by a_before a_here a_next : Nat → Int32), zr_C c d ms mt ev mx → zr_L a_logLength a_log a_logSize a_logs → zr_P c ev mx ph f_situation0 f_place1 f_found g_found a_situations a_stepsTo a_nextPlace a_takenAt a_exitedAt a_enteredAt a_active a_last → P (nI ms, nI mt, nI ev, nI mx, zr_s ph, zr_b ph, nI (zs_n c), nI (d 6 0), nI (zs_q c), f_stepAfter, f_stepTaken, f_stepExited, f_stepEntered, f_situation0, f_place1, f_found, zn_A (c 0), zn_A (c 1), zn_A (c 2), zn_A (c 3), zn_A (c 4), zn_A (d 0), zn_A (d 1), zn_A (d 2), zn_A (d 3), zn_A (c 5), zn_A (c 6), zn_A (c 7), zn_A (c 8), zn_A (c 9), zn_A (c 10), zn_A (d 4), zn_A (d 5), a_log, a_logLength, a_situations, a_stepsTo, a_nextPlace, a_takenAt, a_exitedAt, a_enteredAt) (nI ms, nI mt, nI ev, nI mx, nI ph, nI (zs_n c), nI (zs_q c), g_found, zn_A (c 0), zn_A (c 1), zn_A (c 2), zn_A (c 3), zn_A (c 4), zn_A (c 5), zn_A (c 6), zn_A (c 7), zn_A (c 8), zn_A (c 9), zn_A (c 10), a_active, a_last, a_logs, a_logSize, a_enabled, a_taken, a_exited, a_by, a_before, a_here, a_next)) : P u v := by
  obtain ⟨c, d, ms, mt, ev, mx, ph, f_stepAfter, f_stepTaken, f_stepExited, f_stepEntered, f_situation0, f_place1, f_found, g_found, a_log, a_logLength, a_situations, a_stepsTo, a_nextPlace, a_takenAt, a_exitedAt, a_enteredAt, a_active, a_last, a_logs, a_logSize, a_enabled, a_taken, a_exited, a_by, a_before, a_here, a_next, h1, h2, h3, h4, h5⟩ := I
  rw [h1, h2]
  exact h c d ms mt ev mx ph f_stepAfter f_stepTaken f_stepExited f_stepEntered f_situation0 f_place1 f_found g_found a_log a_logLength a_situations a_stepsTo a_nextPlace a_takenAt a_exitedAt a_enteredAt a_active a_last a_logs a_logSize a_enabled a_taken a_exited a_by a_before a_here a_next h3 h4 h5
theorem zr_in {k : Nat} {c d : Nat → Nat → Nat} {ms mt ev mx ph : Nat} {f_stepAfter : Int64} {f_stepTaken f_stepExited f_stepEntered : Int32} {f_situation0 : Int64} {f_place1 f_found g_found : Int32} {a_log a_logLength : Nat → Int32} {a_situations : Nat → Int64} {a_stepsTo a_nextPlace a_takenAt a_exitedAt a_enteredAt a_active a_last a_logs a_logSize a_enabled a_taken a_exited a_by a_before a_here a_next : Nat → Int32} (h3 : zr_C c d ms mt ev mx) (h4 : zr_L a_logLength a_log a_logSize a_logs) (h5 : zr_P c ev mx ph f_situation0 f_place1 f_found g_found a_situations a_stepsTo a_nextPlace a_takenAt a_exitedAt a_enteredAt a_active a_last) : i_Rel k (nI ms, nI mt, nI ev, nI mx, zr_s ph, zr_b ph, nI (zs_n c), nI (d 6 0), nI (zs_q c), f_stepAfter, f_stepTaken, f_stepExited, f_stepEntered, f_situation0, f_place1, f_found, zn_A (c 0), zn_A (c 1), zn_A (c 2), zn_A (c 3), zn_A (c 4), zn_A (d 0), zn_A (d 1), zn_A (d 2), zn_A (d 3), zn_A (c 5), zn_A (c 6), zn_A (c 7), zn_A (c 8), zn_A (c 9), zn_A (c 10), zn_A (d 4), zn_A (d 5), a_log, a_logLength, a_situations, a_stepsTo, a_nextPlace, a_takenAt, a_exitedAt, a_enteredAt) (nI ms, nI mt, nI ev, nI mx, nI ph, nI (zs_n c), nI (zs_q c), g_found, zn_A (c 0), zn_A (c 1), zn_A (c 2), zn_A (c 3), zn_A (c 4), zn_A (c 5), zn_A (c 6), zn_A (c 7), zn_A (c 8), zn_A (c 9), zn_A (c 10), a_active, a_last, a_logs, a_logSize, a_enabled, a_taken, a_exited, a_by, a_before, a_here, a_next) :=
  ⟨c, d, ms, mt, ev, mx, ph, f_stepAfter, f_stepTaken, f_stepExited, f_stepEntered, f_situation0, f_place1, f_found, g_found, a_log, a_logLength, a_situations, a_stepsTo, a_nextPlace, a_takenAt, a_exitedAt, a_enteredAt, a_active, a_last, a_logs, a_logSize, a_enabled, a_taken, a_exited, a_by, a_before, a_here, a_next, rfl, rfl, h3, h4, h5⟩
theorem i_up {k : Nat} {u : SX} {v : SY} (h : i_Rel k u v) : i_Rel (k + 5) u v := h
/-! logs under changes -/
theorem zr_L_0 {ll lg ls lo ll' lg' ls' lo' : Nat → Int32} {m : Nat} {l : List Nat} (h : zr_L ll lg ls lo) (hx : zl_ok ll' lg' m l) (hy : zl_ok ls' lo' m l) (fx : zl_fr m lg ll lg' ll') (fy : zl_fr m lo ls lo' ls') : zr_L ll' lg' ls' lo' := by
  intro m' hm'
  by_cases e : m' = m
  · rw [e]; exact ⟨l, hx, hy⟩
  · obtain ⟨l', h1, h2⟩ := h m' hm'
    exact ⟨l', zl_ok_fr fx e h1, zl_ok_fr fy e h2⟩
theorem zr_L_Q {ll lg ls lo ls' lo' act last act' last' : Nat → Int32} (h : zr_L ll lg ls lo) (q : zy_Q act last lo ls act' last' lo' ls') : zr_L ll lg ls' lo' := by
  intro m' hm'
  obtain ⟨l', h1, h2⟩ := h m' hm'
  exact ⟨l', h1, zy_Q_l q hm' h2⟩
/-! arguments -/
theorem zr_nn {v : Int32} {n : Nat} (hn : n < 2 ^ 31) (h : nI n ≤ v) : ¬ v < 0 := by
  rw [Int32.lt_iff_toInt_lt]
  rw [Int32.le_iff_toInt_le, nI_toInt hn] at h
  have h0 : (0 : Int32).toInt = 0 := by decide
  omega
theorem zr_nlt {v : Int32} {n : Nat} (h : nI n ≤ v) : ¬ v < nI n := Int32.not_lt.mpr h
variable {c d : Nat → Nat → Nat} {ms mt ev mx ph : Nat}
variable {f_stepAfter f_situation0 : Int64} {f_stepTaken f_stepExited f_stepEntered f_place1 f_found : Int32} {a_log a_logLength a_stepsTo a_nextPlace a_takenAt a_exitedAt a_enteredAt : Nat → Int32} {a_situations : Nat → Int64}
variable {g_found : Int32} {a_active a_last a_logs a_logSize a_enabled a_taken a_exited a_by a_before a_here a_next : Nat → Int32}
/-- the machine test on both sides -/
theorem zr_mt (hph : ph ≤ 2) (x : Int32) : ∃ r : Int32, (∀ post : Int32 → Prop, post r → wpX_machineTest post (nI ms, nI mt, nI ev, nI mx, zr_s ph, zr_b ph, nI (zs_n c), nI (d 6 0), nI (zs_q c), f_stepAfter, f_stepTaken, f_stepExited, f_stepEntered, f_situation0, f_place1, f_found, zn_A (c 0), zn_A (c 1), zn_A (c 2), zn_A (c 3), zn_A (c 4), zn_A (d 0), zn_A (d 1), zn_A (d 2), zn_A (d 3), zn_A (c 5), zn_A (c 6), zn_A (c 7), zn_A (c 8), zn_A (c 9), zn_A (c 10), zn_A (d 4), zn_A (d 5), a_log, a_logLength, a_situations, a_stepsTo, a_nextPlace, a_takenAt, a_exitedAt, a_enteredAt) x) ∧ (∀ post : Int32 → Prop, post r → wpY_refusal post (nI ms, nI mt, nI ev, nI mx, nI ph, nI (zs_n c), nI (zs_q c), g_found, zn_A (c 0), zn_A (c 1), zn_A (c 2), zn_A (c 3), zn_A (c 4), zn_A (c 5), zn_A (c 6), zn_A (c 7), zn_A (c 8), zn_A (c 9), zn_A (c 10), a_active, a_last, a_logs, a_logSize, a_enabled, a_taken, a_exited, a_by, a_before, a_here, a_next) x) ∧ (r = 0 → ∃ m, m < 2 ∧ m < ph ∧ x = nI m) := by
  rcases pk_ix x (n := 2) (by decide) with h | h | ⟨m, hm, rfl⟩
  · exact ⟨-3, fun _ hp => br_t h hp, fun _ hp => br_t h hp, fun e => absurd e (by decide)⟩
  · have h0 := zr_nn (by decide) h
    have h1 : ¬ x ≤ 1 := by
      rw [Int32.le_iff_toInt_le] at h ⊢
      have e2 : (nI 2).toInt = 2 := by decide
      have e1 : (1 : Int32).toInt = 1 := by decide
      omega
    exact ⟨-3, fun _ hp => br_f h0 (br_f h1 hp), fun _ hp => br_f h0 (br_f h1 hp), fun e => absurd e (by decide)⟩
  · have hm' : m = 0 ∨ m = 1 := by omega
    have hp' : ph = 0 ∨ ph = 1 ∨ ph = 2 := by omega
    rcases hm' with rfl | rfl
    · rcases hp' with rfl | rfl | rfl
      · exact ⟨-1, fun _ hp => br_f (by decide) (br_t (by decide) (br_t rfl (br_t rfl hp))), fun _ hp => br_f (by decide) (br_t (by decide) (br_t rfl (br_t rfl hp))), fun e => absurd e (by decide)⟩
      · exact ⟨0, fun _ hp => br_f (by decide) (br_t (by decide) (br_t rfl (br_f (by decide) hp))), fun _ hp => br_f (by decide) (br_t (by decide) (br_t rfl (br_f (by decide) (br_f (by decide) hp)))), fun _ => ⟨0, by decide, by decide, rfl⟩⟩
      · exact ⟨0, fun _ hp => br_f (by decide) (br_t (by decide) (br_t rfl (br_f (by decide) hp))), fun _ hp => br_f (by decide) (br_t (by decide) (br_t rfl (br_f (by decide) (br_f (by decide) hp)))), fun _ => ⟨0, by decide, by decide, rfl⟩⟩
    · rcases hp' with rfl | rfl | rfl
      · exact ⟨-1, fun _ hp => br_f (by decide) (br_t (by decide) (br_f (by decide) (br_t rfl hp))), fun _ hp => br_f (by decide) (br_t (by decide) (br_f (by decide) (br_t rfl (br_f (by decide) hp)))), fun e => absurd e (by decide)⟩
      · exact ⟨-1, fun _ hp => br_f (by decide) (br_t (by decide) (br_f (by decide) (br_t rfl hp))), fun _ hp => br_f (by decide) (br_t (by decide) (br_f (by decide) (br_t rfl (br_f (by decide) hp)))), fun e => absurd e (by decide)⟩
      · exact ⟨0, fun _ hp => br_f (by decide) (br_t (by decide) (br_f (by decide) (br_f (by decide) hp))), fun _ hp => br_f (by decide) (br_t (by decide) (br_f (by decide) (br_t rfl (br_t rfl hp)))), fun _ => ⟨1, by decide, by decide, rfl⟩⟩
theorem zr_isn {post : Int32 → Prop} {x : Int32} (h : x < 0) (hp : post 0) : wpX_isState post (nI ms, nI mt, nI ev, nI mx, zr_s ph, zr_b ph, nI (zs_n c), nI (d 6 0), nI (zs_q c), f_stepAfter, f_stepTaken, f_stepExited, f_stepEntered, f_situation0, f_place1, f_found, zn_A (c 0), zn_A (c 1), zn_A (c 2), zn_A (c 3), zn_A (c 4), zn_A (d 0), zn_A (d 1), zn_A (d 2), zn_A (d 3), zn_A (c 5), zn_A (c 6), zn_A (c 7), zn_A (c 8), zn_A (c 9), zn_A (c 10), zn_A (d 4), zn_A (d 5), a_log, a_logLength, a_situations, a_stepsTo, a_nextPlace, a_takenAt, a_exitedAt, a_enteredAt) x := br_t h hp
theorem zr_isb {post : Int32 → Prop} {x : Int32} (hn : zs_n c ≤ 12) (h : nI (zs_n c) ≤ x) (hp : post 0) : wpX_isState post (nI ms, nI mt, nI ev, nI mx, zr_s ph, zr_b ph, nI (zs_n c), nI (d 6 0), nI (zs_q c), f_stepAfter, f_stepTaken, f_stepExited, f_stepEntered, f_situation0, f_place1, f_found, zn_A (c 0), zn_A (c 1), zn_A (c 2), zn_A (c 3), zn_A (c 4), zn_A (d 0), zn_A (d 1), zn_A (d 2), zn_A (d 3), zn_A (c 5), zn_A (c 6), zn_A (c 7), zn_A (c 8), zn_A (c 9), zn_A (c 10), zn_A (d 4), zn_A (d 5), a_log, a_logLength, a_situations, a_stepsTo, a_nextPlace, a_takenAt, a_exitedAt, a_enteredAt) x := br_f (zr_nn (by omega) h) (br_t h hp)
theorem zr_isy {post : Int32 → Prop} {s : Nat} (hn : zs_n c ≤ 12) (h : s < zs_n c) (hp : post 1) : wpX_isState post (nI ms, nI mt, nI ev, nI mx, zr_s ph, zr_b ph, nI (zs_n c), nI (d 6 0), nI (zs_q c), f_stepAfter, f_stepTaken, f_stepExited, f_stepEntered, f_situation0, f_place1, f_found, zn_A (c 0), zn_A (c 1), zn_A (c 2), zn_A (c 3), zn_A (c 4), zn_A (d 0), zn_A (d 1), zn_A (d 2), zn_A (d 3), zn_A (c 5), zn_A (c 6), zn_A (c 7), zn_A (c 8), zn_A (c 9), zn_A (c 10), zn_A (d 4), zn_A (d 5), a_log, a_logLength, a_situations, a_stepsTo, a_nextPlace, a_takenAt, a_exitedAt, a_enteredAt) (nI s) := br_f (nI_pos (by omega)) (br_f (nI_ge h (by omega)) hp)
theorem zr_ien {post : Int32 → Prop} {x : Int32} (h : x < 0) (hp : post 0) : wpX_isEvent post (nI ms, nI mt, nI ev, nI mx, zr_s ph, zr_b ph, nI (zs_n c), nI (d 6 0), nI (zs_q c), f_stepAfter, f_stepTaken, f_stepExited, f_stepEntered, f_situation0, f_place1, f_found, zn_A (c 0), zn_A (c 1), zn_A (c 2), zn_A (c 3), zn_A (c 4), zn_A (d 0), zn_A (d 1), zn_A (d 2), zn_A (d 3), zn_A (c 5), zn_A (c 6), zn_A (c 7), zn_A (c 8), zn_A (c 9), zn_A (c 10), zn_A (d 4), zn_A (d 5), a_log, a_logLength, a_situations, a_stepsTo, a_nextPlace, a_takenAt, a_exitedAt, a_enteredAt) x := br_t h hp
theorem zr_ieb {post : Int32 → Prop} {x : Int32} (hn : ev ≤ 4) (h : nI ev ≤ x) (hp : post 0) : wpX_isEvent post (nI ms, nI mt, nI ev, nI mx, zr_s ph, zr_b ph, nI (zs_n c), nI (d 6 0), nI (zs_q c), f_stepAfter, f_stepTaken, f_stepExited, f_stepEntered, f_situation0, f_place1, f_found, zn_A (c 0), zn_A (c 1), zn_A (c 2), zn_A (c 3), zn_A (c 4), zn_A (d 0), zn_A (d 1), zn_A (d 2), zn_A (d 3), zn_A (c 5), zn_A (c 6), zn_A (c 7), zn_A (c 8), zn_A (c 9), zn_A (c 10), zn_A (d 4), zn_A (d 5), a_log, a_logLength, a_situations, a_stepsTo, a_nextPlace, a_takenAt, a_exitedAt, a_enteredAt) x := br_f (zr_nn (by omega) h) (br_t h hp)
theorem zr_iey {post : Int32 → Prop} {s : Nat} (hn : ev ≤ 4) (h : s < ev) (hp : post 1) : wpX_isEvent post (nI ms, nI mt, nI ev, nI mx, zr_s ph, zr_b ph, nI (zs_n c), nI (d 6 0), nI (zs_q c), f_stepAfter, f_stepTaken, f_stepExited, f_stepEntered, f_situation0, f_place1, f_found, zn_A (c 0), zn_A (c 1), zn_A (c 2), zn_A (c 3), zn_A (c 4), zn_A (d 0), zn_A (d 1), zn_A (d 2), zn_A (d 3), zn_A (c 5), zn_A (c 6), zn_A (c 7), zn_A (c 8), zn_A (c 9), zn_A (c 10), zn_A (d 4), zn_A (d 5), a_log, a_logLength, a_situations, a_stepsTo, a_nextPlace, a_takenAt, a_exitedAt, a_enteredAt) (nI s) := br_f (nI_pos (by omega)) (br_f (nI_ge h (by omega)) hp)
theorem zr_itn {post : Int32 → Prop} {x : Int32} (h : x < 0) (hp : post 0) : wpX_isTransition post (nI ms, nI mt, nI ev, nI mx, zr_s ph, zr_b ph, nI (zs_n c), nI (d 6 0), nI (zs_q c), f_stepAfter, f_stepTaken, f_stepExited, f_stepEntered, f_situation0, f_place1, f_found, zn_A (c 0), zn_A (c 1), zn_A (c 2), zn_A (c 3), zn_A (c 4), zn_A (d 0), zn_A (d 1), zn_A (d 2), zn_A (d 3), zn_A (c 5), zn_A (c 6), zn_A (c 7), zn_A (c 8), zn_A (c 9), zn_A (c 10), zn_A (d 4), zn_A (d 5), a_log, a_logLength, a_situations, a_stepsTo, a_nextPlace, a_takenAt, a_exitedAt, a_enteredAt) x := br_t h hp
theorem zr_itb {post : Int32 → Prop} {x : Int32} (hn : zs_q c ≤ 16) (h : nI (zs_q c) ≤ x) (hp : post 0) : wpX_isTransition post (nI ms, nI mt, nI ev, nI mx, zr_s ph, zr_b ph, nI (zs_n c), nI (d 6 0), nI (zs_q c), f_stepAfter, f_stepTaken, f_stepExited, f_stepEntered, f_situation0, f_place1, f_found, zn_A (c 0), zn_A (c 1), zn_A (c 2), zn_A (c 3), zn_A (c 4), zn_A (d 0), zn_A (d 1), zn_A (d 2), zn_A (d 3), zn_A (c 5), zn_A (c 6), zn_A (c 7), zn_A (c 8), zn_A (c 9), zn_A (c 10), zn_A (d 4), zn_A (d 5), a_log, a_logLength, a_situations, a_stepsTo, a_nextPlace, a_takenAt, a_exitedAt, a_enteredAt) x := br_f (zr_nn (by omega) h) (br_t h hp)
theorem zr_ity {post : Int32 → Prop} {s : Nat} (hn : zs_q c ≤ 16) (h : s < zs_q c) (hp : post 1) : wpX_isTransition post (nI ms, nI mt, nI ev, nI mx, zr_s ph, zr_b ph, nI (zs_n c), nI (d 6 0), nI (zs_q c), f_stepAfter, f_stepTaken, f_stepExited, f_stepEntered, f_situation0, f_place1, f_found, zn_A (c 0), zn_A (c 1), zn_A (c 2), zn_A (c 3), zn_A (c 4), zn_A (d 0), zn_A (d 1), zn_A (d 2), zn_A (d 3), zn_A (c 5), zn_A (c 6), zn_A (c 7), zn_A (c 8), zn_A (c 9), zn_A (c 10), zn_A (d 4), zn_A (d 5), a_log, a_logLength, a_situations, a_stepsTo, a_nextPlace, a_takenAt, a_exitedAt, a_enteredAt) (nI s) := br_f (nI_pos (by omega)) (br_f (nI_ge h (by omega)) hp)
/-- the situation of a running machine, on both sides -/
theorem zr_sit (hG : zs_G c ev) (hmx : mx ≤ 16) (hP : zr_P c ev mx ph f_situation0 f_place1 f_found g_found a_situations a_stepsTo a_nextPlace a_takenAt a_exitedAt a_enteredAt a_active a_last) {m : Nat} (hm : m < 2) (hph : m < ph) : ∃ z, zs_R c ev z ∧ zs_W c z ∧ zy_S a_active a_last m z ∧ ∀ post : Int64 → Prop, post (lN z) → wpX_situationOf post (nI ms, nI mt, nI ev, nI mx, zr_s ph, zr_b ph, nI (zs_n c), nI (d 6 0), nI (zs_q c), f_stepAfter, f_stepTaken, f_stepExited, f_stepEntered, f_situation0, f_place1, f_found, zn_A (c 0), zn_A (c 1), zn_A (c 2), zn_A (c 3), zn_A (c 4), zn_A (d 0), zn_A (d 1), zn_A (d 2), zn_A (d 3), zn_A (c 5), zn_A (c 6), zn_A (c 7), zn_A (c 8), zn_A (c 9), zn_A (c 10), zn_A (d 4), zn_A (d 5), a_log, a_logLength, a_situations, a_stepsTo, a_nextPlace, a_takenAt, a_exitedAt, a_enteredAt) (nI m) := by
  obtain ⟨h1, h2, h3⟩ := hP
  have hm' : m = 0 ∨ m = 1 := by omega
  rcases hm' with rfl | rfl
  · obtain ⟨z, e, hR, hS⟩ := h2 (by omega)
    refine ⟨z, hR, zs_R_W hG hR, hS, fun post hp => br_t rfl ?_⟩
    rw [e]; exact hp
  · obtain ⟨w, p, hC, e1, e2, e3, hp1, hT, hS, hS1⟩ := h3 (by omega)
    obtain ⟨i, hi, hV⟩ := hC
    have hR := hV.2.2.1 p hp1
    have hw := hV.1
    refine ⟨w.2.1 p, hR, zs_R_W hG hR, hS1, fun post hp => br_f (by decide) ?_⟩
    rw [e3, nI_clamp (show p < 2 ^ 31 by omega), (hT.1 p hp1).1]
    exact And.intro (vp_in_nI (by omega) (by decide)) hp
end ZRL
end
section
section ZVR
/-! the reading calls -/
theorem i_vc_isActive {k : Nat} {u : SX} {v : SY} (I : i_Rel k u v) (hk : k + 5 ≤ 2564) (v1 : Int32) (v2 : Int32) : wpX_isActive (fun r => wpY_isActive (fun r' => r' = r ∧ i_Rel (k + 5) u v) v v1 v2) u v1 v2 := by
  refine zr_el (P := fun u v => wpX_isActive (fun r => wpY_isActive (fun r' => r' = r ∧ i_Rel (k + 5) u v) v v1 v2) u v1 v2) I ?_
  intro c d ms mt ev mx ph f_stepAfter f_stepTaken f_stepExited f_stepEntered f_situation0 f_place1 f_found g_found a_log a_logLength a_situations a_stepsTo a_nextPlace a_takenAt a_exitedAt a_enteredAt a_active a_last a_logs a_logSize a_enabled a_taken a_exited a_by a_before a_here a_next hC hL hP
  have hR : i_Rel (k + 5) (nI ms, nI mt, nI ev, nI mx, zr_s ph, zr_b ph, nI (zs_n c), nI (d 6 0), nI (zs_q c), f_stepAfter, f_stepTaken, f_stepExited, f_stepEntered, f_situation0, f_place1, f_found, zn_A (c 0), zn_A (c 1), zn_A (c 2), zn_A (c 3), zn_A (c 4), zn_A (d 0), zn_A (d 1), zn_A (d 2), zn_A (d 3), zn_A (c 5), zn_A (c 6), zn_A (c 7), zn_A (c 8), zn_A (c 9), zn_A (c 10), zn_A (d 4), zn_A (d 5), a_log, a_logLength, a_situations, a_stepsTo, a_nextPlace, a_takenAt, a_exitedAt, a_enteredAt) (nI ms, nI mt, nI ev, nI mx, nI ph, nI (zs_n c), nI (zs_q c), g_found, zn_A (c 0), zn_A (c 1), zn_A (c 2), zn_A (c 3), zn_A (c 4), zn_A (c 5), zn_A (c 6), zn_A (c 7), zn_A (c 8), zn_A (c 9), zn_A (c 10), a_active, a_last, a_logs, a_logSize, a_enabled, a_taken, a_exited, a_by, a_before, a_here, a_next) := zr_in hC hL hP
  have hG := hC.1
  have hn := zs_Gn hG
  obtain ⟨r, hX, hY, hr⟩ := zr_mt (c := c) (d := d) (ms := ms) (mt := mt) (ev := ev) (mx := mx) (ph := ph) (f_stepAfter := f_stepAfter) (f_stepTaken := f_stepTaken) (f_stepExited := f_stepExited) (f_stepEntered := f_stepEntered) (f_situation0 := f_situation0) (f_place1 := f_place1) (f_found := f_found) (a_log := a_log) (a_logLength := a_logLength) (a_situations := a_situations) (a_stepsTo := a_stepsTo) (a_nextPlace := a_nextPlace) (a_takenAt := a_takenAt) (a_exitedAt := a_exitedAt) (a_enteredAt := a_enteredAt) (g_found := g_found) (a_active := a_active) (a_last := a_last) (a_logs := a_logs) (a_logSize := a_logSize) (a_enabled := a_enabled) (a_taken := a_taken) (a_exited := a_exited) (a_by := a_by) (a_before := a_before) (a_here := a_here) (a_next := a_next) hP.1 v1
  unfold wpX_isActive wpY_isActive
  refine hX _ (br_c (fun h0 => ?_) (fun h0 => hY _ (br_f h0 ⟨rfl, hR⟩)))
  obtain ⟨m, hm, hmp, rfl⟩ := hr h0
  obtain ⟨z, hzR, hzW, hzS, hsit⟩ := zr_sit (d := d) (ms := ms) (mt := mt) (f_stepAfter := f_stepAfter) (f_stepTaken := f_stepTaken) (f_stepExited := f_stepExited) (f_stepEntered := f_stepEntered) (a_log := a_log) (a_logLength := a_logLength) hG hC.2.2.2.2.2.2.2.2 hP hm hmp
  rcases pk_ix v2 (n := zs_n c) (by omega) with h | h | ⟨s, hs, rfl⟩
  · exact zr_isn h (br_t rfl (hY _ (br_t h0 (br_t h ⟨rfl, hR⟩))))
  · exact zr_isb hn.2.1 h (br_t rfl (hY _ (br_t h0 (br_f (zr_nn (by omega) h) (br_f (zr_nlt h) ⟨rfl, hR⟩)))))
  · refine zr_isy hn.2.1 hs (br_f (by decide) (hsit _ ?_))
    refine hY _ (br_t h0 (br_f (nI_pos (by omega)) (br_t (nI_lt hs (by omega)) ?_)))
    rw [zy_i12, nI_clamp (show m * 12 + s < 2 ^ 31 by omega), (hzS s (by omega)).1, zw_act hzW.1.1 (by omega)]
    refine And.intro (vp_in_nI (by omega) (by decide)) (ek_if zn_b0 (fun h => ?_) (fun h => ?_))
    · rw [h]; exact ⟨rfl, hR⟩
    · rw [zn_bt h]; exact ⟨rfl, hR⟩
theorem i_vc_lastChild {k : Nat} {u : SX} {v : SY} (I : i_Rel k u v) (hk : k + 5 ≤ 2564) (v1 : Int32) (v2 : Int32) : wpX_lastChild (fun r => wpY_lastChild (fun r' => r' = r ∧ i_Rel (k + 5) u v) v v1 v2) u v1 v2 := by
  refine zr_el (P := fun u v => wpX_lastChild (fun r => wpY_lastChild (fun r' => r' = r ∧ i_Rel (k + 5) u v) v v1 v2) u v1 v2) I ?_
  intro c d ms mt ev mx ph f_stepAfter f_stepTaken f_stepExited f_stepEntered f_situation0 f_place1 f_found g_found a_log a_logLength a_situations a_stepsTo a_nextPlace a_takenAt a_exitedAt a_enteredAt a_active a_last a_logs a_logSize a_enabled a_taken a_exited a_by a_before a_here a_next hC hL hP
  have hR : i_Rel (k + 5) (nI ms, nI mt, nI ev, nI mx, zr_s ph, zr_b ph, nI (zs_n c), nI (d 6 0), nI (zs_q c), f_stepAfter, f_stepTaken, f_stepExited, f_stepEntered, f_situation0, f_place1, f_found, zn_A (c 0), zn_A (c 1), zn_A (c 2), zn_A (c 3), zn_A (c 4), zn_A (d 0), zn_A (d 1), zn_A (d 2), zn_A (d 3), zn_A (c 5), zn_A (c 6), zn_A (c 7), zn_A (c 8), zn_A (c 9), zn_A (c 10), zn_A (d 4), zn_A (d 5), a_log, a_logLength, a_situations, a_stepsTo, a_nextPlace, a_takenAt, a_exitedAt, a_enteredAt) (nI ms, nI mt, nI ev, nI mx, nI ph, nI (zs_n c), nI (zs_q c), g_found, zn_A (c 0), zn_A (c 1), zn_A (c 2), zn_A (c 3), zn_A (c 4), zn_A (c 5), zn_A (c 6), zn_A (c 7), zn_A (c 8), zn_A (c 9), zn_A (c 10), a_active, a_last, a_logs, a_logSize, a_enabled, a_taken, a_exited, a_by, a_before, a_here, a_next) := zr_in hC hL hP
  have hG := hC.1
  have hn := zs_Gn hG
  obtain ⟨r, hX, hY, hr⟩ := zr_mt (c := c) (d := d) (ms := ms) (mt := mt) (ev := ev) (mx := mx) (ph := ph) (f_stepAfter := f_stepAfter) (f_stepTaken := f_stepTaken) (f_stepExited := f_stepExited) (f_stepEntered := f_stepEntered) (f_situation0 := f_situation0) (f_place1 := f_place1) (f_found := f_found) (a_log := a_log) (a_logLength := a_logLength) (a_situations := a_situations) (a_stepsTo := a_stepsTo) (a_nextPlace := a_nextPlace) (a_takenAt := a_takenAt) (a_exitedAt := a_exitedAt) (a_enteredAt := a_enteredAt) (g_found := g_found) (a_active := a_active) (a_last := a_last) (a_logs := a_logs) (a_logSize := a_logSize) (a_enabled := a_enabled) (a_taken := a_taken) (a_exited := a_exited) (a_by := a_by) (a_before := a_before) (a_here := a_here) (a_next := a_next) hP.1 v1
  unfold wpX_lastChild wpY_lastChild
  refine hX _ (br_c (fun h0 => ?_) (fun h0 => hY _ (br_f h0 ⟨rfl, hR⟩)))
  obtain ⟨m, hm, hmp, rfl⟩ := hr h0
  obtain ⟨z, hzR, hzW, hzS, hsit⟩ := zr_sit (d := d) (ms := ms) (mt := mt) (f_stepAfter := f_stepAfter) (f_stepTaken := f_stepTaken) (f_stepExited := f_stepExited) (f_stepEntered := f_stepEntered) (a_log := a_log) (a_logLength := a_logLength) hG hC.2.2.2.2.2.2.2.2 hP hm hmp
  rcases pk_ix v2 (n := zs_n c) (by omega) with h | h | ⟨s, hs, rfl⟩
  · exact zr_isn h (br_t rfl (hY _ (br_t h0 (br_t h ⟨rfl, hR⟩))))
  · exact zr_isb hn.2.1 h (br_t rfl (hY _ (br_t h0 (br_f (zr_nn (by omega) h) (br_f (zr_nlt h) ⟨rfl, hR⟩)))))
  · refine zr_isy hn.2.1 hs (br_f (by decide) (hsit _ (zx_lastIn hzW.1.1 (by omega) ?_)))
    refine hY _ (br_t h0 (br_f (nI_pos (by omega)) (br_t (nI_lt hs (by omega)) ?_)))
    rw [zy_i12, nI_clamp (show m * 12 + s < 2 ^ 31 by omega), (hzS s (by omega)).2]
    exact And.intro (vp_in_nI (by omega) (by decide)) ⟨rfl, hR⟩
theorem i_vc_emittedAt {k : Nat} {u : SX} {v : SY} (I : i_Rel k u v) (hk : k + 5 ≤ 2564) (v1 : Int32) (v2 : Int32) : wpX_emittedAt (fun r => wpY_emittedAt (fun r' => r' = r ∧ i_Rel (k + 5) u v) v v1 v2) u v1 v2 := by
  refine zr_el (P := fun u v => wpX_emittedAt (fun r => wpY_emittedAt (fun r' => r' = r ∧ i_Rel (k + 5) u v) v v1 v2) u v1 v2) I ?_
  intro c d ms mt ev mx ph f_stepAfter f_stepTaken f_stepExited f_stepEntered f_situation0 f_place1 f_found g_found a_log a_logLength a_situations a_stepsTo a_nextPlace a_takenAt a_exitedAt a_enteredAt a_active a_last a_logs a_logSize a_enabled a_taken a_exited a_by a_before a_here a_next hC hL hP
  have hR : i_Rel (k + 5) (nI ms, nI mt, nI ev, nI mx, zr_s ph, zr_b ph, nI (zs_n c), nI (d 6 0), nI (zs_q c), f_stepAfter, f_stepTaken, f_stepExited, f_stepEntered, f_situation0, f_place1, f_found, zn_A (c 0), zn_A (c 1), zn_A (c 2), zn_A (c 3), zn_A (c 4), zn_A (d 0), zn_A (d 1), zn_A (d 2), zn_A (d 3), zn_A (c 5), zn_A (c 6), zn_A (c 7), zn_A (c 8), zn_A (c 9), zn_A (c 10), zn_A (d 4), zn_A (d 5), a_log, a_logLength, a_situations, a_stepsTo, a_nextPlace, a_takenAt, a_exitedAt, a_enteredAt) (nI ms, nI mt, nI ev, nI mx, nI ph, nI (zs_n c), nI (zs_q c), g_found, zn_A (c 0), zn_A (c 1), zn_A (c 2), zn_A (c 3), zn_A (c 4), zn_A (c 5), zn_A (c 6), zn_A (c 7), zn_A (c 8), zn_A (c 9), zn_A (c 10), a_active, a_last, a_logs, a_logSize, a_enabled, a_taken, a_exited, a_by, a_before, a_here, a_next) := zr_in hC hL hP
  have hG := hC.1
  have hn := zs_Gn hG
  obtain ⟨r, hX, hY, hr⟩ := zr_mt (c := c) (d := d) (ms := ms) (mt := mt) (ev := ev) (mx := mx) (ph := ph) (f_stepAfter := f_stepAfter) (f_stepTaken := f_stepTaken) (f_stepExited := f_stepExited) (f_stepEntered := f_stepEntered) (f_situation0 := f_situation0) (f_place1 := f_place1) (f_found := f_found) (a_log := a_log) (a_logLength := a_logLength) (a_situations := a_situations) (a_stepsTo := a_stepsTo) (a_nextPlace := a_nextPlace) (a_takenAt := a_takenAt) (a_exitedAt := a_exitedAt) (a_enteredAt := a_enteredAt) (g_found := g_found) (a_active := a_active) (a_last := a_last) (a_logs := a_logs) (a_logSize := a_logSize) (a_enabled := a_enabled) (a_taken := a_taken) (a_exited := a_exited) (a_by := a_by) (a_before := a_before) (a_here := a_here) (a_next := a_next) hP.1 v1
  unfold wpX_emittedAt wpY_emittedAt
  refine hX _ (br_c (fun h0 => ?_) (fun h0 => hY _ (br_f h0 ⟨rfl, hR⟩)))
  obtain ⟨m, hm, hmp, rfl⟩ := hr h0
  obtain ⟨l, l1, l2⟩ := hL m hm
  have l3 := l1.2.1
  refine br_c (fun h1 => ?_) (fun h1 => ?_)
  · exact hY _ (br_t h0 (br_t h1 ⟨rfl, hR⟩))
  · rw [nI_clamp (show m < 2 ^ 31 by omega), l1.1]
    refine And.intro (vp_in_nI hm (by decide)) (br_c (fun h2 => ?_) (fun h2 => ?_))
    · obtain ⟨i, hi31, rfl⟩ := nI_of h1
      have hi : i < l.length := (nI_ltI hi31 (by omega)).mp h2
      rw [zx_ix (m := m) _ rfl, nI_clamp (show m * 40 + i < 2 ^ 31 by omega), l1.2.2 i hi]
      refine And.intro (vp_in_nI (by omega) (by decide)) (hY _ (br_t h0 (br_f h1 ?_)))
      rw [l2.1, l2.2.2 i hi]
      exact And.intro (vp_in_nI (by omega) (by decide)) (br_t h2 (And.intro (vp_in_nI (by omega) (by decide)) ⟨rfl, hR⟩))
    · refine hY _ (br_t h0 (br_f h1 ?_))
      rw [l2.1]
      exact And.intro (vp_in_nI (by omega) (by decide)) (br_f h2 ⟨rfl, hR⟩)
theorem zr_lt2 {ph : Nat} (hph : ph ≤ 2) : (ph < 2 ∧ zr_b ph = 0 ∧ ¬ nI ph = 2) ∨ (ph = 2 ∧ zr_b ph = 1 ∧ nI ph = 2) := by
  have hp' : ph = 0 ∨ ph = 1 ∨ ph = 2 := by omega
  rcases hp' with rfl | rfl | rfl
  · exact Or.inl ⟨by decide, rfl, by decide⟩
  · exact Or.inl ⟨by decide, rfl, by decide⟩
  · exact Or.inr ⟨rfl, rfl, rfl⟩
theorem i_vc_together {k : Nat} {u : SX} {v : SY} (I : i_Rel k u v) (hk : k + 5 ≤ 2564) (v1 : Int32) (v2 : Int32) : wpX_together (fun r => wpY_together (fun r' => r' = r ∧ i_Rel (k + 5) u v) v v1 v2) u v1 v2 := by
  refine zr_el (P := fun u v => wpX_together (fun r => wpY_together (fun r' => r' = r ∧ i_Rel (k + 5) u v) v v1 v2) u v1 v2) I ?_
  intro c d ms mt ev mx ph f_stepAfter f_stepTaken f_stepExited f_stepEntered f_situation0 f_place1 f_found g_found a_log a_logLength a_situations a_stepsTo a_nextPlace a_takenAt a_exitedAt a_enteredAt a_active a_last a_logs a_logSize a_enabled a_taken a_exited a_by a_before a_here a_next hC hL hP
  have hR : i_Rel (k + 5) (nI ms, nI mt, nI ev, nI mx, zr_s ph, zr_b ph, nI (zs_n c), nI (d 6 0), nI (zs_q c), f_stepAfter, f_stepTaken, f_stepExited, f_stepEntered, f_situation0, f_place1, f_found, zn_A (c 0), zn_A (c 1), zn_A (c 2), zn_A (c 3), zn_A (c 4), zn_A (d 0), zn_A (d 1), zn_A (d 2), zn_A (d 3), zn_A (c 5), zn_A (c 6), zn_A (c 7), zn_A (c 8), zn_A (c 9), zn_A (c 10), zn_A (d 4), zn_A (d 5), a_log, a_logLength, a_situations, a_stepsTo, a_nextPlace, a_takenAt, a_exitedAt, a_enteredAt) (nI ms, nI mt, nI ev, nI mx, nI ph, nI (zs_n c), nI (zs_q c), g_found, zn_A (c 0), zn_A (c 1), zn_A (c 2), zn_A (c 3), zn_A (c 4), zn_A (c 5), zn_A (c 6), zn_A (c 7), zn_A (c 8), zn_A (c 9), zn_A (c 10), a_active, a_last, a_logs, a_logSize, a_enabled, a_taken, a_exited, a_by, a_before, a_here, a_next) := zr_in hC hL hP
  have hG := hC.1
  have hn := zs_Gn hG
  rcases zr_lt2 hP.1 with ⟨_, b1, b2⟩ | ⟨p2, b1, b2⟩
  · exact br_t b1 (br_f b2 ⟨rfl, hR⟩)
  · obtain ⟨w, p, hCw, e1, e2, e3, hp1, hT, hS, hS1⟩ := hP.2.2 p2
    subst e1 e2
    obtain ⟨i, hi, hV⟩ := hCw
    have hw := hV.1
    have hmx := hC.2.2.2.2.2.2.2.2
    have hz : ∀ j, j < w.1 → w.2.1 j < 2 ^ 60 := fun j hj => (zs_R_W hG (hV.2.2.1 j hj)).1.1
    refine br_f (by rw [b1]; decide) ?_
    rcases pk_ix v1 (n := zs_n c) (by omega) with h | h | ⟨s1, hs1, rfl⟩
    · exact zr_isn h (br_t rfl (br_t b2 (br_t h ⟨rfl, hR⟩)))
    · exact zr_isb hn.2.1 h (br_t rfl (br_t b2 (br_f (zr_nn (by omega) h) (br_t h ⟨rfl, hR⟩))))
    · have g1 := nI_pos (n := s1) (by omega)
      have g2 := nI_ge hs1 (show zs_n c < 2 ^ 31 by omega)
      refine zr_isy hn.2.1 hs1 (br_f (by decide) ?_)
      rcases pk_ix v2 (n := zs_n c) (by omega) with h | h | ⟨s2, hs2, rfl⟩
      · exact zr_isn h (br_t rfl (br_t b2 (br_f g1 (br_f g2 (br_t h ⟨rfl, hR⟩)))))
      · exact zr_isb hn.2.1 h (br_t rfl (br_t b2 (br_f g1 (br_f g2 (br_f (zr_nn (by omega) h) (br_f (zr_nlt h) ⟨rfl, hR⟩))))))
      · refine zr_isy hn.2.1 hs2 (br_f (by decide) (nm_e ⟨w.1 + 1, ?_⟩))
        refine zx_tog (w := w) (by omega) (by omega) (by omega) (fun j hj => (hT.1 j hj).1) hz ?_ w.1 0 (Nat.zero_add _)
        refine br_t b2 (br_f g1 (br_f g2 (br_f (nI_pos (by omega)) (br_t (nI_lt hs2 (by omega)) ⟨w.1 + 1, ?_⟩))))
        exact zy_tog (w := w) (by omega) (by omega) (by omega) hS ⟨rfl, hR⟩ w.1 0 (Nat.zero_add _)
end ZVR
end
section
section ZVQ
/-! distance, firings, copyTo -/
theorem i_vc_distance {k : Nat} {u : SX} {v : SY} (I : i_Rel k u v) (hk : k + 5 ≤ 2564) (v1 : Int32) : wpX_distance (fun r => wpY_distance (fun r' v' => r' = r ∧ i_Rel (k + 5) u v') v v1) u v1 := by
  refine zr_el (P := fun u v => wpX_distance (fun r => wpY_distance (fun r' v' => r' = r ∧ i_Rel (k + 5) u v') v v1) u v1) I ?_
  intro c d ms mt ev mx ph f_stepAfter f_stepTaken f_stepExited f_stepEntered f_situation0 f_place1 f_found g_found a_log a_logLength a_situations a_stepsTo a_nextPlace a_takenAt a_exitedAt a_enteredAt a_active a_last a_logs a_logSize a_enabled a_taken a_exited a_by a_before a_here a_next hC hL hP
  have hR : i_Rel (k + 5) (nI ms, nI mt, nI ev, nI mx, zr_s ph, zr_b ph, nI (zs_n c), nI (d 6 0), nI (zs_q c), f_stepAfter, f_stepTaken, f_stepExited, f_stepEntered, f_situation0, f_place1, f_found, zn_A (c 0), zn_A (c 1), zn_A (c 2), zn_A (c 3), zn_A (c 4), zn_A (d 0), zn_A (d 1), zn_A (d 2), zn_A (d 3), zn_A (c 5), zn_A (c 6), zn_A (c 7), zn_A (c 8), zn_A (c 9), zn_A (c 10), zn_A (d 4), zn_A (d 5), a_log, a_logLength, a_situations, a_stepsTo, a_nextPlace, a_takenAt, a_exitedAt, a_enteredAt) (nI ms, nI mt, nI ev, nI mx, nI ph, nI (zs_n c), nI (zs_q c), g_found, zn_A (c 0), zn_A (c 1), zn_A (c 2), zn_A (c 3), zn_A (c 4), zn_A (c 5), zn_A (c 6), zn_A (c 7), zn_A (c 8), zn_A (c 9), zn_A (c 10), a_active, a_last, a_logs, a_logSize, a_enabled, a_taken, a_exited, a_by, a_before, a_here, a_next) := zr_in hC hL hP
  have hG := hC.1
  have hn := zs_Gn hG
  rcases zr_lt2 hP.1 with ⟨_, b1, b2⟩ | ⟨p2, b1, b2⟩
  · exact br_t b1 (br_f b2 ⟨rfl, hR⟩)
  · obtain ⟨w, p, hCw, e1, e2, e3, hp1, hT, hS, hS1⟩ := hP.2.2 p2
    obtain ⟨z, ez, hzR, hzS⟩ := hP.2.1 (by omega)
    subst e1 e2
    obtain ⟨i, hi, hV⟩ := hCw
    have hw := hV.1
    have hmx := hC.2.2.2.2.2.2.2.2
    have hW : ∀ j, j < w.1 → zs_W c (w.2.1 j) := fun j hj => zs_R_W hG (hV.2.2.1 j hj)
    refine br_f (by rw [b1]; decide) ?_
    rcases pk_ix v1 (n := zs_n c) (by omega) with h | h | ⟨s, hs, rfl⟩
    · exact zr_isn h (br_t rfl (br_t b2 (br_t h ⟨rfl, hR⟩)))
    · exact zr_isb hn.2.1 h (br_t rfl (br_t b2 (br_f (zr_nn (by omega) h) (br_f (zr_nlt h) ⟨rfl, hR⟩))))
    · refine zr_isy hn.2.1 hs (br_f (by decide) ⟨w.1 + 1, ?_⟩)
      refine zx_di (w := w) (by omega) (by omega) hT.1 (fun j hj => (hW j hj).1.1) w.1 0 (Nat.zero_add _) ?_
      refine br_t b2 (br_f (nI_pos (by omega)) (br_t (nI_lt hs (by omega)) ⟨w.1 + 1, ?_⟩))
      refine zy_d27 (w := w) (by omega) (fun he hhe => ⟨w.1 + 1, ?_⟩) w.1 0 a_here (Nat.zero_add _) (fun j hj => absurd hj (Nat.not_lt_zero j))
      refine zy_d58 (w := w) (act0 := a_active) (last0 := a_last) (lg0 := a_logs) (ll0 := a_logSize) hG ⟨i, hi, hV⟩ (by omega) hW (by omega) w.1 0 _ _ _ _ _ _ _ _ _ he _ (Nat.zero_add _) ⟨hS, zy_Q_rf⟩ hhe (fun act last lg ll en tk ex byA bef he' ne hM => ?_)
      refine ⟨?_, ?_⟩
      · rw [zb_DY ⟨i, hi, hV⟩]; rfl
      · refine zr_in hC (zr_L_Q hL hM.2) ⟨hP.1, fun _ => ⟨z, ez, hzR, zy_Q_S hM.2 (by decide) hzS⟩, fun _ => ⟨w, p, ⟨i, hi, hV⟩, rfl, rfl, e3, hp1, hT, hM.1, zy_Q_S hM.2 (by decide) hS1⟩⟩
theorem i_vc_firings {k : Nat} {u : SX} {v : SY} (I : i_Rel k u v) (hk : k + 5 ≤ 2564) (v1 : Int32) : wpX_firings (fun r => wpY_firings (fun r' v' => r' = r ∧ i_Rel (k + 5) u v') v v1) u v1 := by
  refine zr_el (P := fun u v => wpX_firings (fun r => wpY_firings (fun r' v' => r' = r ∧ i_Rel (k + 5) u v') v v1) u v1) I ?_
  intro c d ms mt ev mx ph f_stepAfter f_stepTaken f_stepExited f_stepEntered f_situation0 f_place1 f_found g_found a_log a_logLength a_situations a_stepsTo a_nextPlace a_takenAt a_exitedAt a_enteredAt a_active a_last a_logs a_logSize a_enabled a_taken a_exited a_by a_before a_here a_next hC hL hP
  have hR : i_Rel (k + 5) (nI ms, nI mt, nI ev, nI mx, zr_s ph, zr_b ph, nI (zs_n c), nI (d 6 0), nI (zs_q c), f_stepAfter, f_stepTaken, f_stepExited, f_stepEntered, f_situation0, f_place1, f_found, zn_A (c 0), zn_A (c 1), zn_A (c 2), zn_A (c 3), zn_A (c 4), zn_A (d 0), zn_A (d 1), zn_A (d 2), zn_A (d 3), zn_A (c 5), zn_A (c 6), zn_A (c 7), zn_A (c 8), zn_A (c 9), zn_A (c 10), zn_A (d 4), zn_A (d 5), a_log, a_logLength, a_situations, a_stepsTo, a_nextPlace, a_takenAt, a_exitedAt, a_enteredAt) (nI ms, nI mt, nI ev, nI mx, nI ph, nI (zs_n c), nI (zs_q c), g_found, zn_A (c 0), zn_A (c 1), zn_A (c 2), zn_A (c 3), zn_A (c 4), zn_A (c 5), zn_A (c 6), zn_A (c 7), zn_A (c 8), zn_A (c 9), zn_A (c 10), a_active, a_last, a_logs, a_logSize, a_enabled, a_taken, a_exited, a_by, a_before, a_here, a_next) := zr_in hC hL hP
  have hG := hC.1
  have hn := zs_Gn hG
  rcases zr_lt2 hP.1 with ⟨_, b1, b2⟩ | ⟨p2, b1, b2⟩
  · exact br_t b1 (br_f b2 ⟨rfl, hR⟩)
  · obtain ⟨w, p, hCw, e1, e2, e3, hp1, hT, hS, hS1⟩ := hP.2.2 p2
    obtain ⟨z, ez, hzR, hzS⟩ := hP.2.1 (by omega)
    subst e1 e2
    obtain ⟨i, hi, hV⟩ := hCw
    have hw := hV.1
    have hmx := hC.2.2.2.2.2.2.2.2
    have hW : ∀ j, j < w.1 → zs_W c (w.2.1 j) := fun j hj => zs_R_W hG (hV.2.2.1 j hj)
    refine br_f (by rw [b1]; decide) ?_
    rcases pk_ix v1 (n := zs_q c) (by omega) with h | h | ⟨t, ht, rfl⟩
    · exact zr_itn h (br_t rfl (br_t b2 (br_t h ⟨rfl, hR⟩)))
    · exact zr_itb hn.2.2.1 h (br_t rfl (br_t b2 (br_f (zr_nn (by omega) h) (br_f (zr_nlt h) ⟨rfl, hR⟩))))
    · have a2 := (zs_Gt hG ht).2.1
      refine zr_ity hn.2.2.1 ht (br_f (by decide) ⟨w.1 + 1, ?_⟩)
      refine zx_fir (w := w) hG ht (by omega) (fun j hj => (hT.2 j (c 6 t) a2 hj).2.1) ?_ w.1 0 (Nat.zero_add _)
      refine br_t b2 (br_f (nI_pos (by omega)) (br_t (nI_lt ht (by omega)) ⟨w.1 + 1, ?_⟩))
      refine zy_fir (w := w) (act0 := a_active) (last0 := a_last) (lg0 := a_logs) (ll0 := a_logSize) hG ht (by omega) hW (fun act last lg ll en tk ex byA bef hM => ?_) w.1 0 _ _ _ _ _ _ _ _ _ (Nat.zero_add _) ⟨hS, zy_Q_rf⟩
      exact ⟨rfl, zr_in hC (zr_L_Q hL hM.2) ⟨hP.1, fun _ => ⟨z, ez, hzR, zy_Q_S hM.2 (by decide) hzS⟩, fun _ => ⟨w, p, ⟨i, hi, hV⟩, rfl, rfl, e3, hp1, hT, hM.1, zy_Q_S hM.2 (by decide) hS1⟩⟩⟩
theorem zr_cpY {c : Nat → Nat → Nat} {ms mt ev mx ph : Nat} {g_found : Int32} {a_active a_last a_logs a_logSize a_enabled a_taken a_exited a_by a_before a_here a_next : Nat → Int32} {post : Int32 → SY → Prop} {m z z' : Nat} (hm : m < 2) (h2 : nI ph = 2) (hz : z < 2 ^ 60) (hz' : z' < 2 ^ 60) (hS : zy_S a_active a_last m z) (hS' : zy_S a_active a_last (1 - m) z') (K : ∀ act' last' : Nat → Int32, zy_S act' last' m z' → zy_F m a_active a_last act' last' → post (zn_b (!decide (z = z'))) (nI ms, nI mt, nI ev, nI mx, nI ph, nI (zs_n c), nI (zs_q c), g_found, zn_A (c 0), zn_A (c 1), zn_A (c 2), zn_A (c 3), zn_A (c 4), zn_A (c 5), zn_A (c 6), zn_A (c 7), zn_A (c 8), zn_A (c 9), zn_A (c 10), act', last', a_logs, upd a_logSize m 0, a_enabled, a_taken, a_exited, a_by, a_before, a_here, a_next)) : wpY_copyTo post (nI ms, nI mt, nI ev, nI mx, nI ph, nI (zs_n c), nI (zs_q c), g_found, zn_A (c 0), zn_A (c 1), zn_A (c 2), zn_A (c 3), zn_A (c 4), zn_A (c 5), zn_A (c 6), zn_A (c 7), zn_A (c 8), zn_A (c 9), zn_A (c 10), a_active, a_last, a_logs, a_logSize, a_enabled, a_taken, a_exited, a_by, a_before, a_here, a_next) (nI m) := by
  have e1 : (1 : Int32) - nI m = nI (1 - m) := pk_sub (a := 1) (by omega)
  refine br_f (nI_pos (by omega)) (br_t (nI_le (a := m) (b := 1) (by omega) (by decide)) (br_t h2 ?_))
  have hk : ∀ x : Int32, x = zn_b (!decide (z = z')) → wY_copyTo_38 post (nI m) x (nI ms) (nI mt) (nI ev) (nI mx) (nI ph) (nI (zs_n c)) (nI (zs_q c)) g_found (zn_A (c 0)) (zn_A (c 1)) (zn_A (c 2)) (zn_A (c 3)) (zn_A (c 4)) (zn_A (c 5)) (zn_A (c 6)) (zn_A (c 7)) (zn_A (c 8)) (zn_A (c 9)) (zn_A (c 10)) a_active a_last a_logs a_logSize a_enabled a_taken a_exited a_by a_before a_here a_next := by
    intro x hx
    unfold wY_copyTo_38
    rw [e1]
    refine zy_copy (by omega) (by omega) (by omega) hS' (fun act' last' h3 h4 => ?_)
    refine And.intro (vp_in_nI (by omega) (by decide)) ?_
    rw [nI_clamp (show m < 2 ^ 31 by omega), hx]
    exact nm_e (K act' last' h3 h4)
  rw [e1]
  refine zy_same (by omega) (by omega) hz hz' hS hS' (ek_if zn_b0 (fun h => ?_) (fun h => ?_))
  · exact hk 1 (by rw [h]; rfl)
  · exact hk 0 (by rw [zn_bt h]; rfl)
theorem zr_cp0 {lg ll : Nat → Int32} {m : Nat} : zl_ok (upd ll m 0) lg m [] := zl_ok_0
theorem i_vc_copyTo {k : Nat} {u : SX} {v : SY} (I : i_Rel k u v) (hk : k + 5 ≤ 2564) (v1 : Int32) : wpX_copyTo (fun r u' => wpY_copyTo (fun r' v' => r' = r ∧ i_Rel (k + 5) u' v') v v1) u v1 := by
  refine zr_el (P := fun u v => wpX_copyTo (fun r u' => wpY_copyTo (fun r' v' => r' = r ∧ i_Rel (k + 5) u' v') v v1) u v1) I ?_
  intro c d ms mt ev mx ph f_stepAfter f_stepTaken f_stepExited f_stepEntered f_situation0 f_place1 f_found g_found a_log a_logLength a_situations a_stepsTo a_nextPlace a_takenAt a_exitedAt a_enteredAt a_active a_last a_logs a_logSize a_enabled a_taken a_exited a_by a_before a_here a_next hC hL hP
  have hR : i_Rel (k + 5) (nI ms, nI mt, nI ev, nI mx, zr_s ph, zr_b ph, nI (zs_n c), nI (d 6 0), nI (zs_q c), f_stepAfter, f_stepTaken, f_stepExited, f_stepEntered, f_situation0, f_place1, f_found, zn_A (c 0), zn_A (c 1), zn_A (c 2), zn_A (c 3), zn_A (c 4), zn_A (d 0), zn_A (d 1), zn_A (d 2), zn_A (d 3), zn_A (c 5), zn_A (c 6), zn_A (c 7), zn_A (c 8), zn_A (c 9), zn_A (c 10), zn_A (d 4), zn_A (d 5), a_log, a_logLength, a_situations, a_stepsTo, a_nextPlace, a_takenAt, a_exitedAt, a_enteredAt) (nI ms, nI mt, nI ev, nI mx, nI ph, nI (zs_n c), nI (zs_q c), g_found, zn_A (c 0), zn_A (c 1), zn_A (c 2), zn_A (c 3), zn_A (c 4), zn_A (c 5), zn_A (c 6), zn_A (c 7), zn_A (c 8), zn_A (c 9), zn_A (c 10), a_active, a_last, a_logs, a_logSize, a_enabled, a_taken, a_exited, a_by, a_before, a_here, a_next) := zr_in hC hL hP
  have hG := hC.1
  have hn := zs_Gn hG
  rcases pk_ix v1 (n := 2) (by decide) with h | h | ⟨m, hm, rfl⟩
  · exact br_t h (br_t h ⟨rfl, hR⟩)
  · have h0 := zr_nn (by decide) h
    have h1 : ¬ v1 ≤ 1 := by
      rw [Int32.le_iff_toInt_le] at h ⊢
      have e2 : (nI 2).toInt = 2 := by decide
      have e1 : (1 : Int32).toInt = 1 := by decide
      omega
    exact br_f h0 (br_f h1 (br_f h0 (br_f h1 ⟨rfl, hR⟩)))
  · have g0 : ¬ nI m < 0 := nI_pos (by omega)
    have g1 : nI m ≤ 1 := nI_le (a := m) (b := 1) (by omega) (by decide)
    refine br_f g0 (br_t g1 ?_)
    rcases zr_lt2 hP.1 with ⟨_, b1, b2⟩ | ⟨p2, b1, b2⟩
    · exact br_t b1 (br_f g0 (br_t g1 (br_f b2 ⟨rfl, hR⟩)))
    · refine br_f (by rw [b1]; decide) ?_
      have hmx := hC.2.2.2.2.2.2.2.2
      have e1 : (1 : Int32) - nI m = nI (1 - m) := pk_sub (a := 1) (by omega)
      obtain ⟨z, hzR, hzW, hzS, hsit⟩ := zr_sit (d := d) (ms := ms) (mt := mt) (f_stepAfter := f_stepAfter) (f_stepTaken := f_stepTaken) (f_stepExited := f_stepExited) (f_stepEntered := f_stepEntered) (a_log := a_log) (a_logLength := a_logLength) hG hC.2.2.2.2.2.2.2.2 hP hm (by omega)
      obtain ⟨z', hzR', hzW', hzS', hsit'⟩ := zr_sit (d := d) (ms := ms) (mt := mt) (f_stepAfter := f_stepAfter) (f_stepTaken := f_stepTaken) (f_stepExited := f_stepExited) (f_stepEntered := f_stepEntered) (a_log := a_log) (a_logLength := a_logLength) hG hC.2.2.2.2.2.2.2.2 hP (m := 1 - m) (by omega) (by omega)
      refine hsit _ ?_
      rw [e1]
      refine hsit' _ (And.intro (vp_in_nI hm (by decide)) ?_)
      rw [nI_clamp (show m < 2 ^ 31 by omega)]
      refine nm_e (ek_if (zw_lne hzW.1.1 hzW'.1.1) (fun he => ?_) (fun he => ?_))
      · refine zr_cpY hm b2 hzW.1.1 hzW'.1.1 hzS hzS' (fun act' last' h3 h4 => ⟨by rw [decide_eq_true he]; rfl, ?_⟩)
        refine zr_in hC (zr_L_0 hL zl_ok_0 zl_ok_0 zl_fr_0 zl_fr_0) ⟨hP.1, fun h => ?_, fun h => ?_⟩
        · obtain ⟨y, ey, hyR, hyS⟩ := hP.2.1 h
          refine ⟨y, ey, hyR, ?_⟩
          by_cases e0 : m = 0
          · subst e0
            have : y = z := by
              have hyW := zs_R_W hG hyR
              refine zw_z_ext hyW.1.1 hzW.1.1 (fun s hs => ?_)
              have q1 := hyS s hs
              have q2 := hzS s hs
              exact ⟨zn_bI.mp (q1.1.symm.trans q2.1), (nI_eq (by have := zw_L_lt y s; omega) (by have := zw_L_lt z s; omega)).mp (q1.2.symm.trans q2.2)⟩
            rw [this, he]; exact h3
          · exact zy_S_F h4 (by omega) hyS
        · obtain ⟨w, p, hCw, e1, e2, e3, hp1, hT, hS, hS1⟩ := hP.2.2 h
          refine ⟨w, p, hCw, e1, e2, e3, hp1, hT, fun j hj => zy_S_F h4 (by omega) (hS j hj), ?_⟩
          by_cases e0 : m = 1
          · subst e0
            obtain ⟨i, hi, hV⟩ := hCw
            have : w.2.1 p = z := by
              have hyW := zs_R_W hG (hV.2.2.1 p hp1)
              refine zw_z_ext hyW.1.1 hzW.1.1 (fun s hs => ?_)
              have q1 := hS1 s hs
              have q2 := hzS s hs
              exact ⟨zn_bI.mp (q1.1.symm.trans q2.1), (nI_eq (by have := zw_L_lt (w.2.1 p) s; omega) (by have := zw_L_lt z s; omega)).mp (q1.2.symm.trans q2.2)⟩
            rw [this, he]; exact h3
          · exact zy_S_F h4 (by omega) hS1
      · obtain ⟨w, p, hCw, e2, e3, e4, hp1, hT, hS, hS1⟩ := hP.2.2 p2
        obtain ⟨y, ey, hyR, hyS⟩ := hP.2.1 (by omega)
        have hCw' := hCw
        obtain ⟨i, hi, hV⟩ := hCw'
        have hw := hV.1
        have hm' : m = 0 ∨ m = 1 := by omega
        rcases hm' with rfl | rfl
        · refine br_t rfl (zr_cpY hm b2 hzW.1.1 hzW'.1.1 hzS hzS' (fun act' last' h3 h4 => ⟨by rw [decide_eq_false he]; rfl, ?_⟩))
          refine zr_in hC (zr_L_0 hL zl_ok_0 zl_ok_0 zl_fr_0 zl_fr_0) ⟨hP.1, fun _ => ⟨z', rfl, hzR', h3⟩, fun _ => ⟨w, p, hCw, e2, e3, e4, hp1, hT, fun j hj => zy_S_F h4 (by omega) (hS j hj), zy_S_F h4 (by decide) hS1⟩⟩
        · refine br_f (by decide) ?_
          subst e2
          obtain ⟨q0, hq0, eq0⟩ := zb_C_R hCw hzR'
          unfold wpX_moveToSituation
          refine zx_fp (k := w.1) (sit := w.2.1) (by omega) hzW'.1.1 (fun j hj => ⟨(hT.1 j hj).1, (zs_R_W hG (hV.2.2.1 j hj)).1.1⟩) ?_
          rcases zb_fp_sp w.1 w.2.1 z' with ⟨f1, f2⟩ | ⟨f1, f2⟩
          · refine br_f (nI_ge f1 (by omega)) ?_
            refine zr_cpY hm b2 hzW.1.1 hzW'.1.1 hzS hzS' (fun act' last' h3 h4 => ⟨by rw [decide_eq_false he]; rfl, ?_⟩)
            refine zr_in hC (zr_L_0 hL zl_ok_0 zl_ok_0 zl_fr_0 zl_fr_0) ⟨hP.1, fun _ => ⟨y, ey, hyR, zy_S_F h4 (by decide) hyS⟩, fun _ => ⟨w, zb_fp w.1 w.2.1 z', hCw, rfl, e3, rfl, f1, hT, fun j hj => zy_S_F h4 (by omega) (hS j hj), ?_⟩⟩
            rw [f2]; exact h3
          · exact absurd eq0 (f2 q0 hq0)
end ZVQ
end
section
section ZVX
/-! starting and stepping the component's machines -/
variable {c d : Nat → Nat → Nat} {ev : Nat}
variable {f_maxStates f_maxTransitions f_maxSituations f_sealed f_built f_stepTaken f_stepExited f_stepEntered f_place1 f_found : Int32} {f_stepAfter f_situation0 : Int64} {a_log a_logLength a_stepsTo a_nextPlace a_takenAt a_exitedAt a_enteredAt : Nat → Int32} {a_situations : Nat → Int64}
theorem zr_cn (hG : zs_G c ev) {a : Nat} (ha : a < 2 ^ zs_n c) : zn_c 16 (Nat.testBit a) = zn_c (zs_n c) (Nat.testBit a) := by
  have hn := zs_Gn hG
  rw [show 16 = zs_n c + (16 - zs_n c) from by omega]
  exact zn_c_up _ (fun i hi => zn_hb ha hi)
theorem zr_ct (hG : zs_G c ev) (z e : Nat) : zn_c 16 (Nat.testBit (zs_tkm c z e)) = zn_c (zs_q c) (zs_TK c z e) := by
  have hn := zs_Gn hG
  have h1 : zn_c 16 (Nat.testBit (zs_tkm c z e)) = zn_c (zs_q c) (Nat.testBit (zs_tkm c z e)) := by
    rw [show 16 = zs_q c + (16 - zs_q c) from by omega]
    exact zn_c_up _ (fun i hi => zn_mk_out hi)
  rw [h1]
  exact zn_c_cg _ (fun i hi => zn_mk_in hi)
theorem zr_24 {post : Int32 → SX → Prop} {m z : Nat} (hG : zs_G c ev) (hm : m < 2) (hz : zs_W c z) (hs : ∀ post : Int64 → Prop, post (lN z) → wpX_situationOf post (f_maxStates, f_maxTransitions, nI ev, f_maxSituations, f_sealed, f_built, nI (zs_n c), nI (d 6 0), nI (zs_q c), f_stepAfter, f_stepTaken, f_stepExited, f_stepEntered, f_situation0, f_place1, f_found, zn_A (c 0), zn_A (c 1), zn_A (c 2), zn_A (c 3), zn_A (c 4), zn_A (d 0), zn_A (d 1), zn_A (d 2), zn_A (d 3), zn_A (c 5), zn_A (c 6), zn_A (c 7), zn_A (c 8), zn_A (c 9), zn_A (c 10), zn_A (d 4), zn_A (d 5), a_log, a_logLength, a_situations, a_stepsTo, a_nextPlace, a_takenAt, a_exitedAt, a_enteredAt) (nI m)) (K : ∀ lg' ll' : Nat → Int32, zl_ok ll' lg' m (zl_LOG c 0 0 (z % 4096)) → zl_fr m a_log a_logLength lg' ll' → post (nI (zn_c (zs_n c) (Nat.testBit (z % 4096)))) (f_maxStates, f_maxTransitions, nI ev, f_maxSituations, f_sealed, f_built, nI (zs_n c), nI (d 6 0), nI (zs_q c), f_stepAfter, f_stepTaken, f_stepExited, f_stepEntered, f_situation0, f_place1, f_found, zn_A (c 0), zn_A (c 1), zn_A (c 2), zn_A (c 3), zn_A (c 4), zn_A (d 0), zn_A (d 1), zn_A (d 2), zn_A (d 3), zn_A (c 5), zn_A (c 6), zn_A (c 7), zn_A (c 8), zn_A (c 9), zn_A (c 10), zn_A (d 4), zn_A (d 5), lg', ll', a_situations, a_stepsTo, a_nextPlace, a_takenAt, a_exitedAt, a_enteredAt)) : wX_startMachine_24 post (nI m) f_maxStates f_maxTransitions (nI ev) f_maxSituations f_sealed f_built (nI (zs_n c)) (nI (d 6 0)) (nI (zs_q c)) f_stepAfter f_stepTaken f_stepExited f_stepEntered f_situation0 f_place1 f_found (zn_A (c 0)) (zn_A (c 1)) (zn_A (c 2)) (zn_A (c 3)) (zn_A (c 4)) (zn_A (d 0)) (zn_A (d 1)) (zn_A (d 2)) (zn_A (d 3)) (zn_A (c 5)) (zn_A (c 6)) (zn_A (c 7)) (zn_A (c 8)) (zn_A (c 9)) (zn_A (c 10)) (zn_A (d 4)) (zn_A (d 5)) a_log a_logLength a_situations a_stepsTo a_nextPlace a_takenAt a_exitedAt a_enteredAt := by
  have hz12 := zs_n12 hG hz.2
  unfold wX_startMachine_24
  refine hs _ (zx_actIn hz.1.1 ?_)
  refine zx_wlog (ex := 0) (tk := 0) (en := z % 4096) hG hm (by decide) (by decide) (by omega) (fun lg' ll' h1 h2 => ?_)
  refine zx_cnt (by omega) ?_
  rw [zr_cn hG hz.2]
  exact K lg' ll' h1 h2
theorem zr_z0m (hG : zs_G c ev) : zs_z0 c % 4096 = (zs_st c).1 := by
  have a := zs_st_I hG
  exact zs_ra_mod a.2.1 (zs_n12 hG a.1)
theorem zr_sm0 {post : Int32 → SX → Prop} (hG : zs_G c ev) (hD : zx_D c d) (K : ∀ (fa : Int64) (ft fx fe : Int32) (lg' ll' : Nat → Int32), zl_ok ll' lg' 0 (zl_LOG c 0 0 (zs_st c).1) → zl_fr 0 a_log a_logLength lg' ll' → post (nI (zn_c (zs_n c) (Nat.testBit (zs_st c).1))) (f_maxStates, f_maxTransitions, nI ev, f_maxSituations, f_sealed, f_built, nI (zs_n c), nI (d 6 0), nI (zs_q c), fa, ft, fx, fe, lN (zs_z0 c), f_place1, f_found, zn_A (c 0), zn_A (c 1), zn_A (c 2), zn_A (c 3), zn_A (c 4), zn_A (d 0), zn_A (d 1), zn_A (d 2), zn_A (d 3), zn_A (c 5), zn_A (c 6), zn_A (c 7), zn_A (c 8), zn_A (c 9), zn_A (c 10), zn_A (d 4), zn_A (d 5), lg', ll', a_situations, a_stepsTo, a_nextPlace, a_takenAt, a_exitedAt, a_enteredAt)) : wpX_startMachine post (f_maxStates, f_maxTransitions, nI ev, f_maxSituations, f_sealed, f_built, nI (zs_n c), nI (d 6 0), nI (zs_q c), f_stepAfter, f_stepTaken, f_stepExited, f_stepEntered, f_situation0, f_place1, f_found, zn_A (c 0), zn_A (c 1), zn_A (c 2), zn_A (c 3), zn_A (c 4), zn_A (d 0), zn_A (d 1), zn_A (d 2), zn_A (d 3), zn_A (c 5), zn_A (c 6), zn_A (c 7), zn_A (c 8), zn_A (c 9), zn_A (c 10), zn_A (d 4), zn_A (d 5), a_log, a_logLength, a_situations, a_stepsTo, a_nextPlace, a_takenAt, a_exitedAt, a_enteredAt) 0 := by
  refine br_t rfl ?_
  refine zx_cStart hG hD ?_
  refine zr_24 (m := 0) hG (by decide) (zs_W_z0 hG) (fun post hp => br_t rfl hp) (fun lg' ll' h1 h2 => ?_)
  rw [zr_z0m hG] at h1 ⊢
  exact K _ _ _ _ lg' ll' h1 h2
theorem zr_sm1 {post : Int32 → SX → Prop} (hG : zs_G c ev) (h0 : a_situations 0 = lN (zs_z0 c)) (K : ∀ lg' ll' : Nat → Int32, zl_ok ll' lg' 1 (zl_LOG c 0 0 (zs_st c).1) → zl_fr 1 a_log a_logLength lg' ll' → post (nI (zn_c (zs_n c) (Nat.testBit (zs_st c).1))) (f_maxStates, f_maxTransitions, nI ev, f_maxSituations, f_sealed, f_built, nI (zs_n c), nI (d 6 0), nI (zs_q c), f_stepAfter, f_stepTaken, f_stepExited, f_stepEntered, f_situation0, 0, f_found, zn_A (c 0), zn_A (c 1), zn_A (c 2), zn_A (c 3), zn_A (c 4), zn_A (d 0), zn_A (d 1), zn_A (d 2), zn_A (d 3), zn_A (c 5), zn_A (c 6), zn_A (c 7), zn_A (c 8), zn_A (c 9), zn_A (c 10), zn_A (d 4), zn_A (d 5), lg', ll', a_situations, a_stepsTo, a_nextPlace, a_takenAt, a_exitedAt, a_enteredAt)) : wpX_startMachine post (f_maxStates, f_maxTransitions, nI ev, f_maxSituations, f_sealed, f_built, nI (zs_n c), nI (d 6 0), nI (zs_q c), f_stepAfter, f_stepTaken, f_stepExited, f_stepEntered, f_situation0, f_place1, f_found, zn_A (c 0), zn_A (c 1), zn_A (c 2), zn_A (c 3), zn_A (c 4), zn_A (d 0), zn_A (d 1), zn_A (d 2), zn_A (d 3), zn_A (c 5), zn_A (c 6), zn_A (c 7), zn_A (c 8), zn_A (c 9), zn_A (c 10), zn_A (d 4), zn_A (d 5), a_log, a_logLength, a_situations, a_stepsTo, a_nextPlace, a_takenAt, a_exitedAt, a_enteredAt) 1 := by
  refine br_f (by decide) ?_
  refine zr_24 (m := 1) (z := zs_z0 c) hG (by decide) (zs_W_z0 hG) (fun post hp => br_f (by decide) (And.intro (vp_in_nI (n := 0) (by decide) (by decide)) ?_)) (fun lg' ll' h1 h2 => ?_)
  · have e : a_situations (0 : Int32).toNatClampNeg = lN (zs_z0 c) := h0
    rw [e]; exact hp
  · rw [zr_z0m hG] at h1 ⊢
    exact K lg' ll' h1 h2
theorem zr_byR {post : Int32 → SX → Prop} {z e : Nat} (hG : zs_G c ev) (hD : zx_D c d) (hz : zs_W c z) (he : e < 2 ^ 31) (K : ∀ (fa : Int64) (ft fx fe : Int32) (lg' ll' : Nat → Int32), zl_ok ll' lg' 0 (zl_LOG c (zs_exm c z e) (zs_tkm c z e) (zs_enm c z e)) → zl_fr 0 a_log a_logLength lg' ll' → post (nI (zn_c (zs_q c) (zs_TK c z e))) (f_maxStates, f_maxTransitions, nI ev, f_maxSituations, f_sealed, f_built, nI (zs_n c), nI (d 6 0), nI (zs_q c), fa, ft, fx, fe, lN (zs_sp c z e), f_place1, f_found, zn_A (c 0), zn_A (c 1), zn_A (c 2), zn_A (c 3), zn_A (c 4), zn_A (d 0), zn_A (d 1), zn_A (d 2), zn_A (d 3), zn_A (c 5), zn_A (c 6), zn_A (c 7), zn_A (c 8), zn_A (c 9), zn_A (c 10), zn_A (d 4), zn_A (d 5), lg', ll', a_situations, a_stepsTo, a_nextPlace, a_takenAt, a_exitedAt, a_enteredAt)) : wpX_stepByRules post (f_maxStates, f_maxTransitions, nI ev, f_maxSituations, f_sealed, f_built, nI (zs_n c), nI (d 6 0), nI (zs_q c), f_stepAfter, f_stepTaken, f_stepExited, f_stepEntered, lN z, f_place1, f_found, zn_A (c 0), zn_A (c 1), zn_A (c 2), zn_A (c 3), zn_A (c 4), zn_A (d 0), zn_A (d 1), zn_A (d 2), zn_A (d 3), zn_A (c 5), zn_A (c 6), zn_A (c 7), zn_A (c 8), zn_A (c 9), zn_A (c 10), zn_A (d 4), zn_A (d 5), a_log, a_logLength, a_situations, a_stepsTo, a_nextPlace, a_takenAt, a_exitedAt, a_enteredAt) (nI e) := by
  have hn := zs_Gn hG
  have h12 := zs_n12 hG (zs_tL_I hG (T := zs_TK c z e) hz.1 (zs_q c) (Nat.le_refl _)).1
  unfold wpX_stepByRules
  refine zx_cStep hG hD hz he ?_
  refine zx_wlog (m := 0) (ex := zs_exm c z e) (tk := zs_tkm c z e) (en := zs_enm c z e) hG (by decide) (zn_mk_31 (by omega) _) (zn_mk_31 hn.2.2.1 _) (Nat.lt_trans h12 (by decide)) (fun lg' ll' h1 h2 => ?_)
  refine zx_cnt (m := zs_tkm c z e) (zn_mk_31 hn.2.2.1 _) ?_
  rw [zr_ct hG]
  exact K _ _ _ _ lg' ll' h1 h2
theorem zr_byT {post : Int32 → SX → Prop} {w : zb_St} {p e : Nat} (hG : zs_G c ev) (hw : w.1 ≤ 16) (hp : p < w.1) (he : e < ev) (hz : zs_W c (w.2.1 p)) (hT : zx_row c w a_nextPlace a_takenAt a_exitedAt a_enteredAt p e) (K : ∀ lg' ll' : Nat → Int32, zl_ok ll' lg' 1 (zl_LOG c (zs_exm c (w.2.1 p) e) (zs_tkm c (w.2.1 p) e) (zs_enm c (w.2.1 p) e)) → zl_fr 1 a_log a_logLength lg' ll' → post (nI (zn_c (zs_q c) (zs_TK c (w.2.1 p) e))) (f_maxStates, f_maxTransitions, nI ev, f_maxSituations, f_sealed, f_built, nI (zs_n c), nI (d 6 0), nI (zs_q c), f_stepAfter, f_stepTaken, f_stepExited, f_stepEntered, f_situation0, nI (w.2.2.2 (p * 4 + e)), f_found, zn_A (c 0), zn_A (c 1), zn_A (c 2), zn_A (c 3), zn_A (c 4), zn_A (d 0), zn_A (d 1), zn_A (d 2), zn_A (d 3), zn_A (c 5), zn_A (c 6), zn_A (c 7), zn_A (c 8), zn_A (c 9), zn_A (c 10), zn_A (d 4), zn_A (d 5), lg', ll', a_situations, a_stepsTo, a_nextPlace, a_takenAt, a_exitedAt, a_enteredAt)) : wpX_stepByTable post (f_maxStates, f_maxTransitions, nI ev, f_maxSituations, f_sealed, f_built, nI (zs_n c), nI (d 6 0), nI (zs_q c), f_stepAfter, f_stepTaken, f_stepExited, f_stepEntered, f_situation0, nI p, f_found, zn_A (c 0), zn_A (c 1), zn_A (c 2), zn_A (c 3), zn_A (c 4), zn_A (d 0), zn_A (d 1), zn_A (d 2), zn_A (d 3), zn_A (c 5), zn_A (c 6), zn_A (c 7), zn_A (c 8), zn_A (c 9), zn_A (c 10), zn_A (d 4), zn_A (d 5), a_log, a_logLength, a_situations, a_stepsTo, a_nextPlace, a_takenAt, a_exitedAt, a_enteredAt) (nI e) := by
  have hn := zs_Gn hG
  have h12 := zs_n12 hG (zs_tL_I hG (T := zs_TK c (w.2.1 p) e) hz.1 (zs_q c) (Nat.le_refl _)).1
  have ei : nI p * 4 + nI e = nI (p * 4 + e) := by
    show nI p * nI 4 + nI e = _
    rw [pk_mul, nI_add]
  have vi : vp_in (nI (p * 4 + e)) 64 := vp_in_nI (by omega) (by decide)
  obtain ⟨t1, t2, t3, t4⟩ := hT
  refine nm_r ei (And.intro vi ?_)
  rw [nI_clamp (show p * 4 + e < 2 ^ 31 by omega), t1, t2, t3, t4]
  refine nm_e (And.intro vi (And.intro vi (And.intro vi ?_)))
  refine zx_wlog (m := 1) (ex := zs_exm c (w.2.1 p) e) (tk := zs_tkm c (w.2.1 p) e) (en := zs_enm c (w.2.1 p) e) hG (by decide) (zn_mk_31 (by omega) _) (zn_mk_31 hn.2.2.1 _) (Nat.lt_trans h12 (by decide)) (fun lg' ll' h1 h2 => ?_)
  refine And.intro vi ?_
  rw [t2]
  refine zx_cnt (m := zs_tkm c (w.2.1 p) e) (zn_mk_31 hn.2.2.1 _) ?_
  rw [zr_ct hG]
  exact K lg' ll' h1 h2
end ZVX
section ZVS
/-! seal, restart, send, build -/
theorem i_vc_seal {k : Nat} {u : SX} {v : SY} (I : i_Rel k u v) (hk : k + 5 ≤ 2564) : wpX_seal (fun r u' => wpY_seal (fun r' v' => r' = r ∧ i_Rel (k + 5) u' v') v) u := by
  refine zr_el (P := fun u v => wpX_seal (fun r u' => wpY_seal (fun r' v' => r' = r ∧ i_Rel (k + 5) u' v') v) u) I ?_
  intro c d ms mt ev mx ph f_stepAfter f_stepTaken f_stepExited f_stepEntered f_situation0 f_place1 f_found g_found a_log a_logLength a_situations a_stepsTo a_nextPlace a_takenAt a_exitedAt a_enteredAt a_active a_last a_logs a_logSize a_enabled a_taken a_exited a_by a_before a_here a_next hC hL hP
  have hR : i_Rel (k + 5) (nI ms, nI mt, nI ev, nI mx, zr_s ph, zr_b ph, nI (zs_n c), nI (d 6 0), nI (zs_q c), f_stepAfter, f_stepTaken, f_stepExited, f_stepEntered, f_situation0, f_place1, f_found, zn_A (c 0), zn_A (c 1), zn_A (c 2), zn_A (c 3), zn_A (c 4), zn_A (d 0), zn_A (d 1), zn_A (d 2), zn_A (d 3), zn_A (c 5), zn_A (c 6), zn_A (c 7), zn_A (c 8), zn_A (c 9), zn_A (c 10), zn_A (d 4), zn_A (d 5), a_log, a_logLength, a_situations, a_stepsTo, a_nextPlace, a_takenAt, a_exitedAt, a_enteredAt) (nI ms, nI mt, nI ev, nI mx, nI ph, nI (zs_n c), nI (zs_q c), g_found, zn_A (c 0), zn_A (c 1), zn_A (c 2), zn_A (c 3), zn_A (c 4), zn_A (c 5), zn_A (c 6), zn_A (c 7), zn_A (c 8), zn_A (c 9), zn_A (c 10), a_active, a_last, a_logs, a_logSize, a_enabled, a_taken, a_exited, a_by, a_before, a_here, a_next) := zr_in hC hL hP
  have hG := hC.1
  have hp' : ph = 0 ∨ ph = 1 ∨ ph = 2 := by have := hP.1; omega
  rcases hp' with rfl | rfl | rfl
  · refine br_t rfl ?_
    refine zr_sm0 hG hC.2.1 (fun fa ft fx fe lg' ll' h1 h2 => ?_)
    refine br_t rfl ?_
    refine zy_start (m := 0) hG (by decide) (fun act' last' lg2 ll2 by' g1 g2 g3 g4 => ⟨rfl, ?_⟩)
    exact zr_in (ph := 1) hC (zr_L_0 hL h1 g2 h2 g4) ⟨by decide, fun _ => ⟨zs_z0 c, rfl, zs_R_0, g1⟩, fun h => absurd h (by decide)⟩
  · exact br_f (by decide) (br_f (by decide) ⟨rfl, hR⟩)
  · exact br_f (by decide) (br_f (by decide) ⟨rfl, hR⟩)
theorem i_vc_restart {k : Nat} {u : SX} {v : SY} (I : i_Rel k u v) (hk : k + 5 ≤ 2564) (v1 : Int32) : wpX_restart (fun r u' => wpY_restart (fun r' v' => r' = r ∧ i_Rel (k + 5) u' v') v v1) u v1 := by
  refine zr_el (P := fun u v => wpX_restart (fun r u' => wpY_restart (fun r' v' => r' = r ∧ i_Rel (k + 5) u' v') v v1) u v1) I ?_
  intro c d ms mt ev mx ph f_stepAfter f_stepTaken f_stepExited f_stepEntered f_situation0 f_place1 f_found g_found a_log a_logLength a_situations a_stepsTo a_nextPlace a_takenAt a_exitedAt a_enteredAt a_active a_last a_logs a_logSize a_enabled a_taken a_exited a_by a_before a_here a_next hC hL hP
  have hR : i_Rel (k + 5) (nI ms, nI mt, nI ev, nI mx, zr_s ph, zr_b ph, nI (zs_n c), nI (d 6 0), nI (zs_q c), f_stepAfter, f_stepTaken, f_stepExited, f_stepEntered, f_situation0, f_place1, f_found, zn_A (c 0), zn_A (c 1), zn_A (c 2), zn_A (c 3), zn_A (c 4), zn_A (d 0), zn_A (d 1), zn_A (d 2), zn_A (d 3), zn_A (c 5), zn_A (c 6), zn_A (c 7), zn_A (c 8), zn_A (c 9), zn_A (c 10), zn_A (d 4), zn_A (d 5), a_log, a_logLength, a_situations, a_stepsTo, a_nextPlace, a_takenAt, a_exitedAt, a_enteredAt) (nI ms, nI mt, nI ev, nI mx, nI ph, nI (zs_n c), nI (zs_q c), g_found, zn_A (c 0), zn_A (c 1), zn_A (c 2), zn_A (c 3), zn_A (c 4), zn_A (c 5), zn_A (c 6), zn_A (c 7), zn_A (c 8), zn_A (c 9), zn_A (c 10), a_active, a_last, a_logs, a_logSize, a_enabled, a_taken, a_exited, a_by, a_before, a_here, a_next) := zr_in hC hL hP
  have hG := hC.1
  obtain ⟨r, hX, hY, hr⟩ := zr_mt (c := c) (d := d) (ms := ms) (mt := mt) (ev := ev) (mx := mx) (ph := ph) (f_stepAfter := f_stepAfter) (f_stepTaken := f_stepTaken) (f_stepExited := f_stepExited) (f_stepEntered := f_stepEntered) (f_situation0 := f_situation0) (f_place1 := f_place1) (f_found := f_found) (a_log := a_log) (a_logLength := a_logLength) (a_situations := a_situations) (a_stepsTo := a_stepsTo) (a_nextPlace := a_nextPlace) (a_takenAt := a_takenAt) (a_exitedAt := a_exitedAt) (a_enteredAt := a_enteredAt) (g_found := g_found) (a_active := a_active) (a_last := a_last) (a_logs := a_logs) (a_logSize := a_logSize) (a_enabled := a_enabled) (a_taken := a_taken) (a_exited := a_exited) (a_by := a_by) (a_before := a_before) (a_here := a_here) (a_next := a_next) hP.1 v1
  unfold wpX_restart wpY_restart
  refine hX _ (br_c (fun h0 => ?_) (fun h0 => hY _ (br_f h0 ⟨rfl, hR⟩)))
  obtain ⟨m, hm, hmp, rfl⟩ := hr h0
  have hm' : m = 0 ∨ m = 1 := by omega
  rcases hm' with rfl | rfl
  · refine zr_sm0 hG hC.2.1 (fun fa ft fx fe lg' ll' h1 h2 => ?_)
    refine hY _ (br_t h0 ?_)
    refine zy_start (m := 0) hG (by decide) (fun act' last' lg2 ll2 by' g1 g2 g3 g4 => ⟨rfl, ?_⟩)
    refine zr_in hC (zr_L_0 hL h1 g2 h2 g4) ⟨hP.1, fun _ => ⟨zs_z0 c, rfl, zs_R_0, g1⟩, fun h => ?_⟩
    obtain ⟨w, p, hCw, e1, e2, e3, hp1, hT, hS, hS1⟩ := hP.2.2 h
    exact ⟨w, p, hCw, e1, e2, e3, hp1, hT, fun j hj => zy_S_F g3 (by omega) (hS j hj), zy_S_F g3 (by decide) hS1⟩
  · have p2 : ph = 2 := by have := hP.1; omega
    obtain ⟨w, p, hCw, e1, e2, e3, hp1, hT, hS, hS1⟩ := hP.2.2 p2
    obtain ⟨z, ez, hzR, hzS⟩ := hP.2.1 (by omega)
    have hCw' := hCw
    obtain ⟨i, hi, hV⟩ := hCw'
    have h00 : a_situations 0 = lN (zs_z0 c) := by rw [(hT.1 0 (by omega)).1, hV.2.1.1]
    refine zr_sm1 hG h00 (fun lg' ll' h1 h2 => ?_)
    refine hY _ (br_t h0 ?_)
    refine zy_start (m := 1) hG (by decide) (fun act' last' lg2 ll2 by' g1 g2 g3 g4 => ⟨rfl, ?_⟩)
    refine zr_in hC (zr_L_0 hL h1 g2 h2 g4) ⟨hP.1, fun _ => ⟨z, ez, hzR, zy_S_F g3 (by decide) hzS⟩, fun _ => ⟨w, 0, hCw, e1, e2, rfl, by omega, hT, fun j hj => zy_S_F g3 (by omega) (hS j hj), ?_⟩⟩
    rw [hV.2.1.1]; exact g1
theorem i_vc_send {k : Nat} {u : SX} {v : SY} (I : i_Rel k u v) (hk : k + 5 ≤ 2564) (v1 : Int32) (v2 : Int32) : wpX_send (fun r u' => wpY_send (fun r' v' => r' = r ∧ i_Rel (k + 5) u' v') v v1 v2) u v1 v2 := by
  refine zr_el (P := fun u v => wpX_send (fun r u' => wpY_send (fun r' v' => r' = r ∧ i_Rel (k + 5) u' v') v v1 v2) u v1 v2) I ?_
  intro c d ms mt ev mx ph f_stepAfter f_stepTaken f_stepExited f_stepEntered f_situation0 f_place1 f_found g_found a_log a_logLength a_situations a_stepsTo a_nextPlace a_takenAt a_exitedAt a_enteredAt a_active a_last a_logs a_logSize a_enabled a_taken a_exited a_by a_before a_here a_next hC hL hP
  have hR : i_Rel (k + 5) (nI ms, nI mt, nI ev, nI mx, zr_s ph, zr_b ph, nI (zs_n c), nI (d 6 0), nI (zs_q c), f_stepAfter, f_stepTaken, f_stepExited, f_stepEntered, f_situation0, f_place1, f_found, zn_A (c 0), zn_A (c 1), zn_A (c 2), zn_A (c 3), zn_A (c 4), zn_A (d 0), zn_A (d 1), zn_A (d 2), zn_A (d 3), zn_A (c 5), zn_A (c 6), zn_A (c 7), zn_A (c 8), zn_A (c 9), zn_A (c 10), zn_A (d 4), zn_A (d 5), a_log, a_logLength, a_situations, a_stepsTo, a_nextPlace, a_takenAt, a_exitedAt, a_enteredAt) (nI ms, nI mt, nI ev, nI mx, nI ph, nI (zs_n c), nI (zs_q c), g_found, zn_A (c 0), zn_A (c 1), zn_A (c 2), zn_A (c 3), zn_A (c 4), zn_A (c 5), zn_A (c 6), zn_A (c 7), zn_A (c 8), zn_A (c 9), zn_A (c 10), a_active, a_last, a_logs, a_logSize, a_enabled, a_taken, a_exited, a_by, a_before, a_here, a_next) := zr_in hC hL hP
  have hG := hC.1
  have hn := zs_Gn hG
  have hmx := hC.2.2.2.2.2.2.2.2
  obtain ⟨r, hX, hY, hr⟩ := zr_mt (c := c) (d := d) (ms := ms) (mt := mt) (ev := ev) (mx := mx) (ph := ph) (f_stepAfter := f_stepAfter) (f_stepTaken := f_stepTaken) (f_stepExited := f_stepExited) (f_stepEntered := f_stepEntered) (f_situation0 := f_situation0) (f_place1 := f_place1) (f_found := f_found) (a_log := a_log) (a_logLength := a_logLength) (a_situations := a_situations) (a_stepsTo := a_stepsTo) (a_nextPlace := a_nextPlace) (a_takenAt := a_takenAt) (a_exitedAt := a_exitedAt) (a_enteredAt := a_enteredAt) (g_found := g_found) (a_active := a_active) (a_last := a_last) (a_logs := a_logs) (a_logSize := a_logSize) (a_enabled := a_enabled) (a_taken := a_taken) (a_exited := a_exited) (a_by := a_by) (a_before := a_before) (a_here := a_here) (a_next := a_next) hP.1 v1
  unfold wpX_send wpY_send
  refine hX _ (br_c (fun h0 => ?_) (fun h0 => hY _ (br_f h0 ⟨rfl, hR⟩)))
  obtain ⟨m, hm, hmp, rfl⟩ := hr h0
  rcases pk_ix v2 (n := ev) (by omega) with h | h | ⟨e, he, rfl⟩
  · exact zr_ien h (br_t rfl (hY _ (br_t h0 (br_t h ⟨rfl, hR⟩))))
  · exact zr_ieb hn.2.2.2 h (br_t rfl (hY _ (br_t h0 (br_f (zr_nn (by omega) h) (br_f (zr_nlt h) ⟨rfl, hR⟩)))))
  · have y1 : ¬ nI e < 0 := nI_pos (by omega)
    have y2 : nI e < nI ev := nI_lt he (by omega)
    refine zr_iey hn.2.2.2 he (br_f (by decide) ?_)
    obtain ⟨z, ez, hzR, hzS⟩ := hP.2.1 (by omega)
    have hm' : m = 0 ∨ m = 1 := by omega
    rcases hm' with rfl | rfl
    · subst ez
      have hzW := zs_R_W hG hzR
      refine br_t rfl ?_
      refine zr_byR hG hC.2.1 hzW (by omega) (fun fa ft fx fe lg' ll' h1 h2 => ?_)
      refine hY _ (br_t h0 (br_f y1 (br_t y2 ?_)))
      refine zy_step (m := 0) hG (by decide) (by omega) hzW hzS (fun act' last' lg2 ll2 en' tk' ex' by' bef' g1 g2 g3 g4 g5 => ⟨rfl, ?_⟩)
      refine zr_in hC (zr_L_0 hL h1 g2 h2 g4) ⟨hP.1, fun _ => ⟨zs_sp c z e, rfl, zs_R_s hzR he, g1⟩, fun h => ?_⟩
      obtain ⟨w, p, hCw, e1, e2, e3, hp1, hT, hS, hS1⟩ := hP.2.2 h
      exact ⟨w, p, hCw, e1, e2, e3, hp1, hT, fun j hj => zy_S_F g3 (by omega) (hS j hj), zy_S_F g3 (by decide) hS1⟩
    · have p2 : ph = 2 := by have := hP.1; omega
      obtain ⟨w, p, hCw, e1, e2, e3, hp1, hT, hS, hS1⟩ := hP.2.2 p2
      subst e3
      have hCw' := hCw
      obtain ⟨i, hi, hV⟩ := hCw'
      have hw := hV.1
      have hzW := zs_R_W hG (hV.2.2.1 p hp1)
      have hx := hV.2.2.2.2.1 p e he (by omega) hp1
      refine br_f (by decide) ?_
      refine zr_byT (w := w) hG (by omega) hp1 he hzW (hT.2 p e he hp1) (fun lg' ll' h1 h2 => ?_)
      refine hY _ (br_t h0 (br_f y1 (br_t y2 ?_)))
      refine zy_step (m := 1) hG (by decide) (by omega) hzW hS1 (fun act' last' lg2 ll2 en' tk' ex' by' bef' g1 g2 g3 g4 g5 => ⟨rfl, ?_⟩)
      refine zr_in hC (zr_L_0 hL h1 g2 h2 g4) ⟨hP.1, fun _ => ⟨z, ez, hzR, zy_S_F g3 (by decide) hzS⟩, fun _ => ⟨w, w.2.2.2 (p * 4 + e), hCw, e1, e2, rfl, hx.1, hT, fun j hj => zy_S_F g3 (by omega) (hS j hj), ?_⟩⟩
      rw [hx.2.1]; exact g1
theorem i_vc_build {k : Nat} {u : SX} {v : SY} (I : i_Rel k u v) (hk : k + 5 ≤ 2564) : wpX_build (fun r u' => wpY_build (fun r' v' => r' = r ∧ i_Rel (k + 5) u' v') v) u := by
  refine zr_el (P := fun u v => wpX_build (fun r u' => wpY_build (fun r' v' => r' = r ∧ i_Rel (k + 5) u' v') v) u) I ?_
  intro c d ms mt ev mx ph f_stepAfter f_stepTaken f_stepExited f_stepEntered f_situation0 f_place1 f_found g_found a_log a_logLength a_situations a_stepsTo a_nextPlace a_takenAt a_exitedAt a_enteredAt a_active a_last a_logs a_logSize a_enabled a_taken a_exited a_by a_before a_here a_next hC hL hP
  have hR : i_Rel (k + 5) (nI ms, nI mt, nI ev, nI mx, zr_s ph, zr_b ph, nI (zs_n c), nI (d 6 0), nI (zs_q c), f_stepAfter, f_stepTaken, f_stepExited, f_stepEntered, f_situation0, f_place1, f_found, zn_A (c 0), zn_A (c 1), zn_A (c 2), zn_A (c 3), zn_A (c 4), zn_A (d 0), zn_A (d 1), zn_A (d 2), zn_A (d 3), zn_A (c 5), zn_A (c 6), zn_A (c 7), zn_A (c 8), zn_A (c 9), zn_A (c 10), zn_A (d 4), zn_A (d 5), a_log, a_logLength, a_situations, a_stepsTo, a_nextPlace, a_takenAt, a_exitedAt, a_enteredAt) (nI ms, nI mt, nI ev, nI mx, nI ph, nI (zs_n c), nI (zs_q c), g_found, zn_A (c 0), zn_A (c 1), zn_A (c 2), zn_A (c 3), zn_A (c 4), zn_A (c 5), zn_A (c 6), zn_A (c 7), zn_A (c 8), zn_A (c 9), zn_A (c 10), a_active, a_last, a_logs, a_logSize, a_enabled, a_taken, a_exited, a_by, a_before, a_here, a_next) := zr_in hC hL hP
  have hG := hC.1
  have hmx := hC.2.2.2.2.2.2.2
  have hp' : ph = 0 ∨ ph = 1 ∨ ph = 2 := by have := hP.1; omega
  rcases hp' with rfl | rfl | rfl
  · exact br_t rfl (br_t rfl ⟨rfl, hR⟩)
  · obtain ⟨z, ez, hzR, hzS⟩ := hP.2.1 (by decide)
    refine br_f (by decide) (br_t rfl ?_)
    refine zx_expl hG hC.2.1 hmx.1 hmx.2 (fun hE fa ft fx fe ff sa st np ta ea na => ?_) (fun w hE hCw fa ft fx fe sa st np ta ea na hT => ?_)
    · refine br_t rfl ?_
      refine zy_bld hG hmx.1 hmx.2 (fun _ act' last' lg' ll' en tk ex byA bef hQ => ?_) (fun w' hE' => ?_)
      · exact ⟨rfl, zr_in (ph := 1) hC (zr_L_Q hL hQ) ⟨by decide, fun _ => ⟨z, ez, hzR, zy_Q_S hQ (by decide) hzS⟩, fun h => absurd h (by decide)⟩⟩
      · rw [hE] at hE'
        exact absurd hE' (by simp)
    · have hCw' := hCw
      obtain ⟨i, hi, hV⟩ := hCw'
      have hw := hV.1
      have h00 : sa 0 = lN (zs_z0 c) := by rw [(hT.1 0 (by omega)).1, hV.2.1.1]
      refine br_f (by decide) ?_
      refine zr_sm1 (a_situations := sa) hG h00 (fun lgx llx h1 h2 => ?_)
      refine zy_bld hG hmx.1 hmx.2 (fun hE' => ?_) (fun w' hE' act1 last1 lg1 ll1 en tk ex bef act' last' lg' ll' by' hQ g3 g4 g1 g2 hS => ?_)
      · rw [hE] at hE'
        exact absurd hE' (by simp)
      · rw [hE] at hE'
        have ew : w = w' := Option.some.inj hE'
        subst ew
        refine ⟨rfl, zr_in (ph := 2) hC (zr_L_0 (zr_L_Q hL hQ) h1 g2 h2 g4) ⟨by decide, fun _ => ⟨z, ez, hzR, zy_S_F g3 (by decide) (zy_Q_S hQ (by decide) hzS)⟩, fun _ => ⟨w, 0, hCw, rfl, rfl, rfl, by omega, hT, hS, ?_⟩⟩⟩
        rw [hV.2.1.1]; exact g1
  · obtain ⟨w, p, hCw, e1, e2, e3, hp1, hT, hS, hS1⟩ := hP.2.2 rfl
    exact br_f (by decide) (br_f (by decide) (br_f (by decide) (br_t rfl ⟨by rw [e1, e2], hR⟩)))
end ZVS
end
section
section ZVF
/-! getField, setField -/
def zn_v (c : Nat → Nat → Nat) (f j x : Nat) : Nat → Nat → Nat := fun i => if i = f then zn_u (c i) j x else c i
theorem zn_v_o {c : Nat → Nat → Nat} {f j x i : Nat} (h : i ≠ f) : zn_v c f j x i = c i := if_neg h
theorem zn_v_s {c : Nat → Nat → Nat} {f j x : Nat} : zn_v c f j x f = zn_u (c f) j x := if_pos rfl
theorem zr_Gv {c : Nat → Nat → Nat} {ev f j x : Nat} (hG : zs_G c ev) (hf : f = 2 ∨ f = 3 ∨ f = 4 ∨ f = 9 ∨ f = 10) (hx : x < 2 ^ 31) (h2 : f = 2 → j < zs_n c ∧ c 1 j = 0 ∧ 0 < x ∧ x < zs_n c ∧ c 0 x = j) (h9 : f = 9 → j < zs_q c ∧ (x = 0 ∨ (2 ≤ x ∧ x ≤ 2 * zs_n c + 1))) : zs_G (zn_v c f j x) ev := by
  have e0 : zn_v c f j x 0 = c 0 := zn_v_o (by omega)
  have e1 : zn_v c f j x 1 = c 1 := zn_v_o (by omega)
  have e5 : zn_v c f j x 5 = c 5 := zn_v_o (by omega)
  have e6 : zn_v c f j x 6 = c 6 := zn_v_o (by omega)
  have e7 : zn_v c f j x 7 = c 7 := zn_v_o (by omega)
  have e8 : zn_v c f j x 8 = c 8 := zn_v_o (by omega)
  have e11 : zn_v c f j x 11 = c 11 := zn_v_o (by omega)
  have e12 : zn_v c f j x 12 = c 12 := zn_v_o (by omega)
  obtain ⟨g1, g2, g3, g4, g5, g6, g7, g8, g9⟩ := hG
  have E2 : f ≠ 2 → zn_v c f j x 2 = c 2 := fun h => zn_v_o (fun e => h e.symm)
  have E9 : f ≠ 9 → zn_v c f j x 9 = c 9 := fun h => zn_v_o (fun e => h e.symm)
  unfold zs_G zs_n zs_q
  rw [e0, e1, e5, e6, e7, e8, e11, e12]
  refine ⟨g1, g2, g3, fun s hs hi => ?_, fun y h0 hy hk => ?_, fun s hs => ?_, fun t ht => ?_, fun t ht => ?_, fun i y => ?_⟩
  · by_cases hf2 : f = 2
    · subst hf2
      rw [zn_v_s] at hi ⊢
      by_cases e : s = j
      · subst e
        rw [zn_us] at hi ⊢
        have := h2 rfl
        exact ⟨this.2.1, this.2.2.2.1, this.2.2.2.2⟩
      · rw [zn_un e] at hi ⊢
        exact g4 s hs hi
    · rw [E2 hf2] at hi ⊢
      exact g4 s hs hi
  · by_cases hf2 : f = 2
    · subst hf2
      rw [zn_v_s]
      by_cases e : c 0 y = j
      · rw [e, zn_us]
        have := h2 rfl
        omega
      · rw [zn_un e]
        exact g5 y h0 hy hk
    · rw [E2 hf2]
      exact g5 y h0 hy hk
  · by_cases hf2 : f = 2
    · subst hf2
      have := h2 rfl
      have hs' : zs_n c ≤ s := hs
      rw [zn_v_s, zn_un (by omega)]
      exact g6 s hs
    · rw [E2 hf2]; exact g6 s hs
  · have a := g7 t ht
    refine ⟨a.1, a.2.1, a.2.2.1, a.2.2.2.1, a.2.2.2.2.1, ?_⟩
    by_cases hf9 : f = 9
    · subst hf9
      rw [zn_v_s]
      by_cases e : t = j
      · rw [e, zn_us]; exact (h9 rfl).2
      · rw [zn_un e]; exact a.2.2.2.2.2
    · rw [E9 hf9]; exact a.2.2.2.2.2
  · by_cases hf9 : f = 9
    · subst hf9
      have := h9 rfl
      have ht' : zs_q c ≤ t := ht
      rw [zn_v_s, zn_un (by omega)]
      exact g8 t ht
    · rw [E9 hf9]; exact g8 t ht
  · by_cases e : i = f
    · subst e
      rw [zn_v_s]
      by_cases e2 : y = j
      · rw [e2, zn_us]; exact hx
      · rw [zn_un e2]; exact g9 i y
    · rw [zn_v_o e]; exact g9 i y
theorem zr_Dv {c d : Nat → Nat → Nat} {f j x : Nat} (hD : zx_D c d) (hf : f = 2 ∨ f = 3 ∨ f = 4 ∨ f = 9 ∨ f = 10) : zx_D (zn_v c f j x) d := by
  have e0 : zn_v c f j x 0 = c 0 := zn_v_o (by omega)
  have e1 : zn_v c f j x 1 = c 1 := zn_v_o (by omega)
  have e5 : zn_v c f j x 5 = c 5 := zn_v_o (by omega)
  have e7 : zn_v c f j x 7 = c 7 := zn_v_o (by omega)
  have e11 : zn_v c f j x 11 = c 11 := zn_v_o (by omega)
  have e12 : zn_v c f j x 12 = c 12 := zn_v_o (by omega)
  have eb : zs_BF (zn_v c f j x) = zs_BF c := by
    funext u t
    unfold zs_BF
    rw [e0, e5]
  unfold zx_D zs_n zs_q zs_dm
  rw [e0, e1, e5, e7, e11, e12, eb]
  exact hD
theorem zr_Cv {c d : Nat → Nat → Nat} {ms mt ev mx f j x : Nat} (hC : zr_C c d ms mt ev mx) (hf : f = 2 ∨ f = 3 ∨ f = 4 ∨ f = 9 ∨ f = 10) (hx : x < 2 ^ 31) (h2 : f = 2 → j < zs_n c ∧ c 1 j = 0 ∧ 0 < x ∧ x < zs_n c ∧ c 0 x = j) (h9 : f = 9 → j < zs_q c ∧ (x = 0 ∨ (2 ≤ x ∧ x ≤ 2 * zs_n c + 1))) : zr_C (zn_v c f j x) d ms mt ev mx := by
  have e11 : zn_v c f j x 11 = c 11 := zn_v_o (by omega)
  have e12 : zn_v c f j x 12 = c 12 := zn_v_o (by omega)
  refine ⟨zr_Gv hC.1 hf hx h2 h9, zr_Dv hC.2.1 hf, ?_⟩
  unfold zs_n zs_q
  rw [e11, e12]
  exact hC.2.2
theorem zr_P0 {c : Nat → Nat → Nat} {ev mx : Nat} {s0 : Int64} {p1 ff gf : Int32} {sa : Nat → Int64} {st np ta ea na act last : Nat → Int32} : zr_P c ev mx 0 s0 p1 ff gf sa st np ta ea na act last := ⟨by decide, fun h => absurd h (by decide), fun h => absurd h (by decide)⟩
variable {c d : Nat → Nat → Nat} {ms mt ev mx ph : Nat}
variable {f_stepAfter f_situation0 : Int64} {f_stepTaken f_stepExited f_stepEntered f_place1 f_found : Int32} {a_log a_logLength a_stepsTo a_nextPlace a_takenAt a_exitedAt a_enteredAt : Nat → Int32} {a_situations : Nat → Int64}
variable {g_found : Int32} {a_active a_last a_logs a_logSize a_enabled a_taken a_exited a_by a_before a_here a_next : Nat → Int32}
theorem zr_neg1 {v : Int32} (h : v < 0) : v < 1 := by
  rw [Int32.lt_iff_toInt_lt] at h ⊢
  have e0 : (0 : Int32).toInt = 0 := by decide
  have e1 : (1 : Int32).toInt = 1 := by decide
  omega
theorem zr_big1 {v : Int32} {n : Nat} (h0 : 0 < n) (hn : n < 2 ^ 31) (h : nI n ≤ v) : ¬ v < 1 := by
  rw [Int32.lt_iff_toInt_lt]
  rw [Int32.le_iff_toInt_le, nI_toInt hn] at h
  have e1 : (1 : Int32).toInt = 1 := by decide
  omega
theorem zr_sf0 {post : Int32 → Prop} {j : Nat} (hn : zs_n c ≤ 12) (hj : j < zs_n c) (hp : post (nI (c 0 j))) : wpX_stateField post (nI ms, nI mt, nI ev, nI mx, zr_s ph, zr_b ph, nI (zs_n c), nI (d 6 0), nI (zs_q c), f_stepAfter, f_stepTaken, f_stepExited, f_stepEntered, f_situation0, f_place1, f_found, zn_A (c 0), zn_A (c 1), zn_A (c 2), zn_A (c 3), zn_A (c 4), zn_A (d 0), zn_A (d 1), zn_A (d 2), zn_A (d 3), zn_A (c 5), zn_A (c 6), zn_A (c 7), zn_A (c 8), zn_A (c 9), zn_A (c 10), zn_A (d 4), zn_A (d 5), a_log, a_logLength, a_situations, a_stepsTo, a_nextPlace, a_takenAt, a_exitedAt, a_enteredAt) 0 (nI j) := by
  have vin : vp_in (nI j) 12 := vp_in_nI (by omega) (by decide)
  unfold wpX_stateField
  refine zr_isy hn hj (br_f (by decide) ?_)
  refine br_f (by decide) (br_f (by decide) (br_t rfl (And.intro vin ?_)))
  rw [zn_rd (c 0) (by omega)]
  exact hp
theorem zr_sf1 {post : Int32 → Prop} {j : Nat} (hn : zs_n c ≤ 12) (hj : j < zs_n c) (hp : post (nI (c 1 j))) : wpX_stateField post (nI ms, nI mt, nI ev, nI mx, zr_s ph, zr_b ph, nI (zs_n c), nI (d 6 0), nI (zs_q c), f_stepAfter, f_stepTaken, f_stepExited, f_stepEntered, f_situation0, f_place1, f_found, zn_A (c 0), zn_A (c 1), zn_A (c 2), zn_A (c 3), zn_A (c 4), zn_A (d 0), zn_A (d 1), zn_A (d 2), zn_A (d 3), zn_A (c 5), zn_A (c 6), zn_A (c 7), zn_A (c 8), zn_A (c 9), zn_A (c 10), zn_A (d 4), zn_A (d 5), a_log, a_logLength, a_situations, a_stepsTo, a_nextPlace, a_takenAt, a_exitedAt, a_enteredAt) 1 (nI j) := by
  have vin : vp_in (nI j) 12 := vp_in_nI (by omega) (by decide)
  unfold wpX_stateField
  refine zr_isy hn hj (br_f (by decide) ?_)
  refine br_f (by decide) (br_f (by decide) (br_f (by decide) (br_t rfl (And.intro vin ?_))))
  rw [zn_rd (c 1) (by omega)]
  exact hp
theorem zr_sf2 {post : Int32 → Prop} {j : Nat} (hn : zs_n c ≤ 12) (hj : j < zs_n c) (hp : post (nI (c 2 j))) : wpX_stateField post (nI ms, nI mt, nI ev, nI mx, zr_s ph, zr_b ph, nI (zs_n c), nI (d 6 0), nI (zs_q c), f_stepAfter, f_stepTaken, f_stepExited, f_stepEntered, f_situation0, f_place1, f_found, zn_A (c 0), zn_A (c 1), zn_A (c 2), zn_A (c 3), zn_A (c 4), zn_A (d 0), zn_A (d 1), zn_A (d 2), zn_A (d 3), zn_A (c 5), zn_A (c 6), zn_A (c 7), zn_A (c 8), zn_A (c 9), zn_A (c 10), zn_A (d 4), zn_A (d 5), a_log, a_logLength, a_situations, a_stepsTo, a_nextPlace, a_takenAt, a_exitedAt, a_enteredAt) 2 (nI j) := by
  have vin : vp_in (nI j) 12 := vp_in_nI (by omega) (by decide)
  unfold wpX_stateField
  refine zr_isy hn hj (br_f (by decide) ?_)
  refine br_f (by decide) (br_f (by decide) (br_f (by decide) (br_f (by decide) (br_t rfl (And.intro vin ?_)))))
  rw [zn_rd (c 2) (by omega)]
  exact hp
theorem zr_sf3 {post : Int32 → Prop} {j : Nat} (hn : zs_n c ≤ 12) (hj : j < zs_n c) (hp : post (nI (c 3 j))) : wpX_stateField post (nI ms, nI mt, nI ev, nI mx, zr_s ph, zr_b ph, nI (zs_n c), nI (d 6 0), nI (zs_q c), f_stepAfter, f_stepTaken, f_stepExited, f_stepEntered, f_situation0, f_place1, f_found, zn_A (c 0), zn_A (c 1), zn_A (c 2), zn_A (c 3), zn_A (c 4), zn_A (d 0), zn_A (d 1), zn_A (d 2), zn_A (d 3), zn_A (c 5), zn_A (c 6), zn_A (c 7), zn_A (c 8), zn_A (c 9), zn_A (c 10), zn_A (d 4), zn_A (d 5), a_log, a_logLength, a_situations, a_stepsTo, a_nextPlace, a_takenAt, a_exitedAt, a_enteredAt) 3 (nI j) := by
  have vin : vp_in (nI j) 12 := vp_in_nI (by omega) (by decide)
  unfold wpX_stateField
  refine zr_isy hn hj (br_f (by decide) ?_)
  refine br_f (by decide) (br_f (by decide) (br_f (by decide) (br_f (by decide) (br_f (by decide) (br_t rfl (And.intro vin ?_))))))
  rw [zn_rd (c 3) (by omega)]
  exact hp
theorem zr_sf4 {post : Int32 → Prop} {j : Nat} (hn : zs_n c ≤ 12) (hj : j < zs_n c) (hp : post (nI (c 4 j))) : wpX_stateField post (nI ms, nI mt, nI ev, nI mx, zr_s ph, zr_b ph, nI (zs_n c), nI (d 6 0), nI (zs_q c), f_stepAfter, f_stepTaken, f_stepExited, f_stepEntered, f_situation0, f_place1, f_found, zn_A (c 0), zn_A (c 1), zn_A (c 2), zn_A (c 3), zn_A (c 4), zn_A (d 0), zn_A (d 1), zn_A (d 2), zn_A (d 3), zn_A (c 5), zn_A (c 6), zn_A (c 7), zn_A (c 8), zn_A (c 9), zn_A (c 10), zn_A (d 4), zn_A (d 5), a_log, a_logLength, a_situations, a_stepsTo, a_nextPlace, a_takenAt, a_exitedAt, a_enteredAt) 4 (nI j) := by
  have vin : vp_in (nI j) 12 := vp_in_nI (by omega) (by decide)
  unfold wpX_stateField
  refine zr_isy hn hj (br_f (by decide) ?_)
  refine br_f (by decide) (br_t (by decide) (And.intro vin ?_))
  rw [zn_rd (c 4) (by omega)]
  exact hp
theorem zr_sf5 {post : Int32 → Prop} {j : Nat} (hn : zs_q c ≤ 16) (hj : j < zs_q c) (hp : post (nI (c 5 j))) : wpX_transitionField post (nI ms, nI mt, nI ev, nI mx, zr_s ph, zr_b ph, nI (zs_n c), nI (d 6 0), nI (zs_q c), f_stepAfter, f_stepTaken, f_stepExited, f_stepEntered, f_situation0, f_place1, f_found, zn_A (c 0), zn_A (c 1), zn_A (c 2), zn_A (c 3), zn_A (c 4), zn_A (d 0), zn_A (d 1), zn_A (d 2), zn_A (d 3), zn_A (c 5), zn_A (c 6), zn_A (c 7), zn_A (c 8), zn_A (c 9), zn_A (c 10), zn_A (d 4), zn_A (d 5), a_log, a_logLength, a_situations, a_stepsTo, a_nextPlace, a_takenAt, a_exitedAt, a_enteredAt) 5 (nI j) := by
  have vin : vp_in (nI j) 16 := vp_in_nI (by omega) (by decide)
  unfold wpX_transitionField
  refine zr_ity hn hj (br_f (by decide) ?_)
  refine br_f (by decide) (br_f (by decide) (br_t rfl (And.intro vin ?_)))
  rw [zn_rd (c 5) (by omega)]
  exact hp
theorem zr_sf6 {post : Int32 → Prop} {j : Nat} (hn : zs_q c ≤ 16) (hj : j < zs_q c) (hp : post (nI (c 6 j))) : wpX_transitionField post (nI ms, nI mt, nI ev, nI mx, zr_s ph, zr_b ph, nI (zs_n c), nI (d 6 0), nI (zs_q c), f_stepAfter, f_stepTaken, f_stepExited, f_stepEntered, f_situation0, f_place1, f_found, zn_A (c 0), zn_A (c 1), zn_A (c 2), zn_A (c 3), zn_A (c 4), zn_A (d 0), zn_A (d 1), zn_A (d 2), zn_A (d 3), zn_A (c 5), zn_A (c 6), zn_A (c 7), zn_A (c 8), zn_A (c 9), zn_A (c 10), zn_A (d 4), zn_A (d 5), a_log, a_logLength, a_situations, a_stepsTo, a_nextPlace, a_takenAt, a_exitedAt, a_enteredAt) 6 (nI j) := by
  have vin : vp_in (nI j) 16 := vp_in_nI (by omega) (by decide)
  unfold wpX_transitionField
  refine zr_ity hn hj (br_f (by decide) ?_)
  refine br_f (by decide) (br_f (by decide) (br_f (by decide) (br_t rfl (And.intro vin ?_))))
  rw [zn_rd (c 6) (by omega)]
  exact hp
theorem zr_sf7 {post : Int32 → Prop} {j : Nat} (hn : zs_q c ≤ 16) (hj : j < zs_q c) (hp : post (nI (c 7 j))) : wpX_transitionField post (nI ms, nI mt, nI ev, nI mx, zr_s ph, zr_b ph, nI (zs_n c), nI (d 6 0), nI (zs_q c), f_stepAfter, f_stepTaken, f_stepExited, f_stepEntered, f_situation0, f_place1, f_found, zn_A (c 0), zn_A (c 1), zn_A (c 2), zn_A (c 3), zn_A (c 4), zn_A (d 0), zn_A (d 1), zn_A (d 2), zn_A (d 3), zn_A (c 5), zn_A (c 6), zn_A (c 7), zn_A (c 8), zn_A (c 9), zn_A (c 10), zn_A (d 4), zn_A (d 5), a_log, a_logLength, a_situations, a_stepsTo, a_nextPlace, a_takenAt, a_exitedAt, a_enteredAt) 7 (nI j) := by
  have vin : vp_in (nI j) 16 := vp_in_nI (by omega) (by decide)
  unfold wpX_transitionField
  refine zr_ity hn hj (br_f (by decide) ?_)
  refine br_f (by decide) (br_f (by decide) (br_f (by decide) (br_f (by decide) (br_t rfl (And.intro vin ?_)))))
  rw [zn_rd (c 7) (by omega)]
  exact hp
theorem zr_sf8 {post : Int32 → Prop} {j : Nat} (hn : zs_q c ≤ 16) (hj : j < zs_q c) (hp : post (nI (c 8 j))) : wpX_transitionField post (nI ms, nI mt, nI ev, nI mx, zr_s ph, zr_b ph, nI (zs_n c), nI (d 6 0), nI (zs_q c), f_stepAfter, f_stepTaken, f_stepExited, f_stepEntered, f_situation0, f_place1, f_found, zn_A (c 0), zn_A (c 1), zn_A (c 2), zn_A (c 3), zn_A (c 4), zn_A (d 0), zn_A (d 1), zn_A (d 2), zn_A (d 3), zn_A (c 5), zn_A (c 6), zn_A (c 7), zn_A (c 8), zn_A (c 9), zn_A (c 10), zn_A (d 4), zn_A (d 5), a_log, a_logLength, a_situations, a_stepsTo, a_nextPlace, a_takenAt, a_exitedAt, a_enteredAt) 8 (nI j) := by
  have vin : vp_in (nI j) 16 := vp_in_nI (by omega) (by decide)
  unfold wpX_transitionField
  refine zr_ity hn hj (br_f (by decide) ?_)
  refine br_f (by decide) (br_f (by decide) (br_f (by decide) (br_f (by decide) (br_f (by decide) (br_t rfl (And.intro vin ?_))))))
  rw [zn_rd (c 8) (by omega)]
  exact hp
theorem zr_sf9 {post : Int32 → Prop} {j : Nat} (hn : zs_q c ≤ 16) (hj : j < zs_q c) (hp : post (nI (c 9 j))) : wpX_transitionField post (nI ms, nI mt, nI ev, nI mx, zr_s ph, zr_b ph, nI (zs_n c), nI (d 6 0), nI (zs_q c), f_stepAfter, f_stepTaken, f_stepExited, f_stepEntered, f_situation0, f_place1, f_found, zn_A (c 0), zn_A (c 1), zn_A (c 2), zn_A (c 3), zn_A (c 4), zn_A (d 0), zn_A (d 1), zn_A (d 2), zn_A (d 3), zn_A (c 5), zn_A (c 6), zn_A (c 7), zn_A (c 8), zn_A (c 9), zn_A (c 10), zn_A (d 4), zn_A (d 5), a_log, a_logLength, a_situations, a_stepsTo, a_nextPlace, a_takenAt, a_exitedAt, a_enteredAt) 9 (nI j) := by
  have vin : vp_in (nI j) 16 := vp_in_nI (by omega) (by decide)
  unfold wpX_transitionField
  refine zr_ity hn hj (br_f (by decide) ?_)
  refine br_f (by decide) (br_f (by decide) (br_f (by decide) (br_f (by decide) (br_f (by decide) (br_f (by decide) (br_t rfl (And.intro vin ?_)))))))
  rw [zn_rd (c 9) (by omega)]
  exact hp
theorem zr_sf10 {post : Int32 → Prop} {j : Nat} (hn : zs_q c ≤ 16) (hj : j < zs_q c) (hp : post (nI (c 10 j))) : wpX_transitionField post (nI ms, nI mt, nI ev, nI mx, zr_s ph, zr_b ph, nI (zs_n c), nI (d 6 0), nI (zs_q c), f_stepAfter, f_stepTaken, f_stepExited, f_stepEntered, f_situation0, f_place1, f_found, zn_A (c 0), zn_A (c 1), zn_A (c 2), zn_A (c 3), zn_A (c 4), zn_A (d 0), zn_A (d 1), zn_A (d 2), zn_A (d 3), zn_A (c 5), zn_A (c 6), zn_A (c 7), zn_A (c 8), zn_A (c 9), zn_A (c 10), zn_A (d 4), zn_A (d 5), a_log, a_logLength, a_situations, a_stepsTo, a_nextPlace, a_takenAt, a_exitedAt, a_enteredAt) 10 (nI j) := by
  have vin : vp_in (nI j) 16 := vp_in_nI (by omega) (by decide)
  unfold wpX_transitionField
  refine zr_ity hn hj (br_f (by decide) ?_)
  refine br_f (by decide) (br_t (by decide) (And.intro vin ?_))
  rw [zn_rd (c 10) (by omega)]
  exact hp
theorem zr_gx0 {post : Int32 → Prop} {j : Nat} (hn : zs_n c ≤ 12) (hj : j < zs_n c) (hp : post (nI (c 0 j))) : wpX_getField post (nI ms, nI mt, nI ev, nI mx, zr_s ph, zr_b ph, nI (zs_n c), nI (d 6 0), nI (zs_q c), f_stepAfter, f_stepTaken, f_stepExited, f_stepEntered, f_situation0, f_place1, f_found, zn_A (c 0), zn_A (c 1), zn_A (c 2), zn_A (c 3), zn_A (c 4), zn_A (d 0), zn_A (d 1), zn_A (d 2), zn_A (d 3), zn_A (c 5), zn_A (c 6), zn_A (c 7), zn_A (c 8), zn_A (c 9), zn_A (c 10), zn_A (d 4), zn_A (d 5), a_log, a_logLength, a_situations, a_stepsTo, a_nextPlace, a_takenAt, a_exitedAt, a_enteredAt) 0 (nI j) :=
  br_f (by decide) (br_t (by decide) (br_f (by decide) (zr_sf0 hn hj hp)))
theorem zr_gy0 {post : Int32 → Prop} {j : Nat} (hn : zs_n c ≤ 12) (hj : j < zs_n c) (hp : post (nI (c 0 j))) : wpY_getField post (nI ms, nI mt, nI ev, nI mx, nI ph, nI (zs_n c), nI (zs_q c), g_found, zn_A (c 0), zn_A (c 1), zn_A (c 2), zn_A (c 3), zn_A (c 4), zn_A (c 5), zn_A (c 6), zn_A (c 7), zn_A (c 8), zn_A (c 9), zn_A (c 10), a_active, a_last, a_logs, a_logSize, a_enabled, a_taken, a_exited, a_by, a_before, a_here, a_next) 0 (nI j) := by
  have vin : vp_in (nI j) 12 := vp_in_nI (by omega) (by decide)
  refine br_f (by decide) (br_f (by decide) (br_f (nI_pos (by omega)) (br_f (by decide) (br_t (nI_lt hj (by omega)) ?_))))
  refine br_t rfl (And.intro vin ?_)
  rw [zn_rd (c 0) (by omega)]
  exact hp
theorem zr_gx1 {post : Int32 → Prop} {j : Nat} (hn : zs_n c ≤ 12) (hj : j < zs_n c) (hp : post (nI (c 1 j))) : wpX_getField post (nI ms, nI mt, nI ev, nI mx, zr_s ph, zr_b ph, nI (zs_n c), nI (d 6 0), nI (zs_q c), f_stepAfter, f_stepTaken, f_stepExited, f_stepEntered, f_situation0, f_place1, f_found, zn_A (c 0), zn_A (c 1), zn_A (c 2), zn_A (c 3), zn_A (c 4), zn_A (d 0), zn_A (d 1), zn_A (d 2), zn_A (d 3), zn_A (c 5), zn_A (c 6), zn_A (c 7), zn_A (c 8), zn_A (c 9), zn_A (c 10), zn_A (d 4), zn_A (d 5), a_log, a_logLength, a_situations, a_stepsTo, a_nextPlace, a_takenAt, a_exitedAt, a_enteredAt) 1 (nI j) :=
  br_f (by decide) (br_t (by decide) (br_f (by decide) (zr_sf1 hn hj hp)))
theorem zr_gy1 {post : Int32 → Prop} {j : Nat} (hn : zs_n c ≤ 12) (hj : j < zs_n c) (hp : post (nI (c 1 j))) : wpY_getField post (nI ms, nI mt, nI ev, nI mx, nI ph, nI (zs_n c), nI (zs_q c), g_found, zn_A (c 0), zn_A (c 1), zn_A (c 2), zn_A (c 3), zn_A (c 4), zn_A (c 5), zn_A (c 6), zn_A (c 7), zn_A (c 8), zn_A (c 9), zn_A (c 10), a_active, a_last, a_logs, a_logSize, a_enabled, a_taken, a_exited, a_by, a_before, a_here, a_next) 1 (nI j) := by
  have vin : vp_in (nI j) 12 := vp_in_nI (by omega) (by decide)
  refine br_f (by decide) (br_f (by decide) (br_f (nI_pos (by omega)) (br_f (by decide) (br_t (nI_lt hj (by omega)) ?_))))
  refine br_f (by decide) (br_t rfl (And.intro vin ?_))
  rw [zn_rd (c 1) (by omega)]
  exact hp
theorem zr_gx2 {post : Int32 → Prop} {j : Nat} (hn : zs_n c ≤ 12) (hj : j < zs_n c) (hp : post (nI (c 2 j))) : wpX_getField post (nI ms, nI mt, nI ev, nI mx, zr_s ph, zr_b ph, nI (zs_n c), nI (d 6 0), nI (zs_q c), f_stepAfter, f_stepTaken, f_stepExited, f_stepEntered, f_situation0, f_place1, f_found, zn_A (c 0), zn_A (c 1), zn_A (c 2), zn_A (c 3), zn_A (c 4), zn_A (d 0), zn_A (d 1), zn_A (d 2), zn_A (d 3), zn_A (c 5), zn_A (c 6), zn_A (c 7), zn_A (c 8), zn_A (c 9), zn_A (c 10), zn_A (d 4), zn_A (d 5), a_log, a_logLength, a_situations, a_stepsTo, a_nextPlace, a_takenAt, a_exitedAt, a_enteredAt) 2 (nI j) :=
  br_f (by decide) (br_t (by decide) (br_f (by decide) (zr_sf2 hn hj hp)))
theorem zr_gy2 {post : Int32 → Prop} {j : Nat} (hn : zs_n c ≤ 12) (hj : j < zs_n c) (hp : post (nI (c 2 j))) : wpY_getField post (nI ms, nI mt, nI ev, nI mx, nI ph, nI (zs_n c), nI (zs_q c), g_found, zn_A (c 0), zn_A (c 1), zn_A (c 2), zn_A (c 3), zn_A (c 4), zn_A (c 5), zn_A (c 6), zn_A (c 7), zn_A (c 8), zn_A (c 9), zn_A (c 10), a_active, a_last, a_logs, a_logSize, a_enabled, a_taken, a_exited, a_by, a_before, a_here, a_next) 2 (nI j) := by
  have vin : vp_in (nI j) 12 := vp_in_nI (by omega) (by decide)
  refine br_f (by decide) (br_f (by decide) (br_f (nI_pos (by omega)) (br_f (by decide) (br_t (nI_lt hj (by omega)) ?_))))
  refine br_f (by decide) (br_f (by decide) (br_t rfl (And.intro vin ?_)))
  rw [zn_rd (c 2) (by omega)]
  exact hp
theorem zr_gx3 {post : Int32 → Prop} {j : Nat} (hn : zs_n c ≤ 12) (hj : j < zs_n c) (hp : post (nI (c 3 j))) : wpX_getField post (nI ms, nI mt, nI ev, nI mx, zr_s ph, zr_b ph, nI (zs_n c), nI (d 6 0), nI (zs_q c), f_stepAfter, f_stepTaken, f_stepExited, f_stepEntered, f_situation0, f_place1, f_found, zn_A (c 0), zn_A (c 1), zn_A (c 2), zn_A (c 3), zn_A (c 4), zn_A (d 0), zn_A (d 1), zn_A (d 2), zn_A (d 3), zn_A (c 5), zn_A (c 6), zn_A (c 7), zn_A (c 8), zn_A (c 9), zn_A (c 10), zn_A (d 4), zn_A (d 5), a_log, a_logLength, a_situations, a_stepsTo, a_nextPlace, a_takenAt, a_exitedAt, a_enteredAt) 3 (nI j) :=
  br_f (by decide) (br_t (by decide) (br_f (by decide) (zr_sf3 hn hj hp)))
theorem zr_gy3 {post : Int32 → Prop} {j : Nat} (hn : zs_n c ≤ 12) (hj : j < zs_n c) (hp : post (nI (c 3 j))) : wpY_getField post (nI ms, nI mt, nI ev, nI mx, nI ph, nI (zs_n c), nI (zs_q c), g_found, zn_A (c 0), zn_A (c 1), zn_A (c 2), zn_A (c 3), zn_A (c 4), zn_A (c 5), zn_A (c 6), zn_A (c 7), zn_A (c 8), zn_A (c 9), zn_A (c 10), a_active, a_last, a_logs, a_logSize, a_enabled, a_taken, a_exited, a_by, a_before, a_here, a_next) 3 (nI j) := by
  have vin : vp_in (nI j) 12 := vp_in_nI (by omega) (by decide)
  refine br_f (by decide) (br_f (by decide) (br_f (nI_pos (by omega)) (br_f (by decide) (br_t (nI_lt hj (by omega)) ?_))))
  refine br_f (by decide) (br_f (by decide) (br_f (by decide) (br_t rfl (And.intro vin ?_))))
  rw [zn_rd (c 3) (by omega)]
  exact hp
theorem zr_gx4 {post : Int32 → Prop} {j : Nat} (hn : zs_n c ≤ 12) (hj : j < zs_n c) (hp : post (nI (c 4 j))) : wpX_getField post (nI ms, nI mt, nI ev, nI mx, zr_s ph, zr_b ph, nI (zs_n c), nI (d 6 0), nI (zs_q c), f_stepAfter, f_stepTaken, f_stepExited, f_stepEntered, f_situation0, f_place1, f_found, zn_A (c 0), zn_A (c 1), zn_A (c 2), zn_A (c 3), zn_A (c 4), zn_A (d 0), zn_A (d 1), zn_A (d 2), zn_A (d 3), zn_A (c 5), zn_A (c 6), zn_A (c 7), zn_A (c 8), zn_A (c 9), zn_A (c 10), zn_A (d 4), zn_A (d 5), a_log, a_logLength, a_situations, a_stepsTo, a_nextPlace, a_takenAt, a_exitedAt, a_enteredAt) 4 (nI j) :=
  br_f (by decide) (br_t (by decide) (br_f (by decide) (zr_sf4 hn hj hp)))
theorem zr_gy4 {post : Int32 → Prop} {j : Nat} (hn : zs_n c ≤ 12) (hj : j < zs_n c) (hp : post (nI (c 4 j))) : wpY_getField post (nI ms, nI mt, nI ev, nI mx, nI ph, nI (zs_n c), nI (zs_q c), g_found, zn_A (c 0), zn_A (c 1), zn_A (c 2), zn_A (c 3), zn_A (c 4), zn_A (c 5), zn_A (c 6), zn_A (c 7), zn_A (c 8), zn_A (c 9), zn_A (c 10), a_active, a_last, a_logs, a_logSize, a_enabled, a_taken, a_exited, a_by, a_before, a_here, a_next) 4 (nI j) := by
  have vin : vp_in (nI j) 12 := vp_in_nI (by omega) (by decide)
  refine br_f (by decide) (br_f (by decide) (br_f (nI_pos (by omega)) (br_f (by decide) (br_t (nI_lt hj (by omega)) ?_))))
  refine br_f (by decide) (br_f (by decide) (br_f (by decide) (br_f (by decide) (br_t rfl (And.intro vin ?_)))))
  rw [zn_rd (c 4) (by omega)]
  exact hp
theorem zr_gx5 {post : Int32 → Prop} {j : Nat} (hn : zs_q c ≤ 16) (hj : j < zs_q c) (hp : post (nI (c 5 j))) : wpX_getField post (nI ms, nI mt, nI ev, nI mx, zr_s ph, zr_b ph, nI (zs_n c), nI (d 6 0), nI (zs_q c), f_stepAfter, f_stepTaken, f_stepExited, f_stepEntered, f_situation0, f_place1, f_found, zn_A (c 0), zn_A (c 1), zn_A (c 2), zn_A (c 3), zn_A (c 4), zn_A (d 0), zn_A (d 1), zn_A (d 2), zn_A (d 3), zn_A (c 5), zn_A (c 6), zn_A (c 7), zn_A (c 8), zn_A (c 9), zn_A (c 10), zn_A (d 4), zn_A (d 5), a_log, a_logLength, a_situations, a_stepsTo, a_nextPlace, a_takenAt, a_exitedAt, a_enteredAt) 5 (nI j) :=
  br_f (by decide) (br_t (by decide) (br_t (by decide) (zr_sf5 hn hj hp)))
theorem zr_gy5 {post : Int32 → Prop} {j : Nat} (hn : zs_q c ≤ 16) (hj : j < zs_q c) (hp : post (nI (c 5 j))) : wpY_getField post (nI ms, nI mt, nI ev, nI mx, nI ph, nI (zs_n c), nI (zs_q c), g_found, zn_A (c 0), zn_A (c 1), zn_A (c 2), zn_A (c 3), zn_A (c 4), zn_A (c 5), zn_A (c 6), zn_A (c 7), zn_A (c 8), zn_A (c 9), zn_A (c 10), a_active, a_last, a_logs, a_logSize, a_enabled, a_taken, a_exited, a_by, a_before, a_here, a_next) 5 (nI j) := by
  have vin : vp_in (nI j) 16 := vp_in_nI (by omega) (by decide)
  refine br_f (by decide) (br_f (by decide) (br_f (nI_pos (by omega)) (br_t (by decide) (br_t (nI_lt hj (by omega)) ?_))))
  refine br_f (by decide) (br_f (by decide) (br_f (by decide) (br_f (by decide) (br_f (by decide) (br_t rfl (And.intro vin ?_))))))
  rw [zn_rd (c 5) (by omega)]
  exact hp
theorem zr_gx6 {post : Int32 → Prop} {j : Nat} (hn : zs_q c ≤ 16) (hj : j < zs_q c) (hp : post (nI (c 6 j))) : wpX_getField post (nI ms, nI mt, nI ev, nI mx, zr_s ph, zr_b ph, nI (zs_n c), nI (d 6 0), nI (zs_q c), f_stepAfter, f_stepTaken, f_stepExited, f_stepEntered, f_situation0, f_place1, f_found, zn_A (c 0), zn_A (c 1), zn_A (c 2), zn_A (c 3), zn_A (c 4), zn_A (d 0), zn_A (d 1), zn_A (d 2), zn_A (d 3), zn_A (c 5), zn_A (c 6), zn_A (c 7), zn_A (c 8), zn_A (c 9), zn_A (c 10), zn_A (d 4), zn_A (d 5), a_log, a_logLength, a_situations, a_stepsTo, a_nextPlace, a_takenAt, a_exitedAt, a_enteredAt) 6 (nI j) :=
  br_f (by decide) (br_t (by decide) (br_t (by decide) (zr_sf6 hn hj hp)))
theorem zr_gy6 {post : Int32 → Prop} {j : Nat} (hn : zs_q c ≤ 16) (hj : j < zs_q c) (hp : post (nI (c 6 j))) : wpY_getField post (nI ms, nI mt, nI ev, nI mx, nI ph, nI (zs_n c), nI (zs_q c), g_found, zn_A (c 0), zn_A (c 1), zn_A (c 2), zn_A (c 3), zn_A (c 4), zn_A (c 5), zn_A (c 6), zn_A (c 7), zn_A (c 8), zn_A (c 9), zn_A (c 10), a_active, a_last, a_logs, a_logSize, a_enabled, a_taken, a_exited, a_by, a_before, a_here, a_next) 6 (nI j) := by
  have vin : vp_in (nI j) 16 := vp_in_nI (by omega) (by decide)
  refine br_f (by decide) (br_f (by decide) (br_f (nI_pos (by omega)) (br_t (by decide) (br_t (nI_lt hj (by omega)) ?_))))
  refine br_f (by decide) (br_f (by decide) (br_f (by decide) (br_f (by decide) (br_f (by decide) (br_f (by decide) (br_t rfl (And.intro vin ?_)))))))
  rw [zn_rd (c 6) (by omega)]
  exact hp
theorem zr_gx7 {post : Int32 → Prop} {j : Nat} (hn : zs_q c ≤ 16) (hj : j < zs_q c) (hp : post (nI (c 7 j))) : wpX_getField post (nI ms, nI mt, nI ev, nI mx, zr_s ph, zr_b ph, nI (zs_n c), nI (d 6 0), nI (zs_q c), f_stepAfter, f_stepTaken, f_stepExited, f_stepEntered, f_situation0, f_place1, f_found, zn_A (c 0), zn_A (c 1), zn_A (c 2), zn_A (c 3), zn_A (c 4), zn_A (d 0), zn_A (d 1), zn_A (d 2), zn_A (d 3), zn_A (c 5), zn_A (c 6), zn_A (c 7), zn_A (c 8), zn_A (c 9), zn_A (c 10), zn_A (d 4), zn_A (d 5), a_log, a_logLength, a_situations, a_stepsTo, a_nextPlace, a_takenAt, a_exitedAt, a_enteredAt) 7 (nI j) :=
  br_f (by decide) (br_t (by decide) (br_t (by decide) (zr_sf7 hn hj hp)))
theorem zr_gy7 {post : Int32 → Prop} {j : Nat} (hn : zs_q c ≤ 16) (hj : j < zs_q c) (hp : post (nI (c 7 j))) : wpY_getField post (nI ms, nI mt, nI ev, nI mx, nI ph, nI (zs_n c), nI (zs_q c), g_found, zn_A (c 0), zn_A (c 1), zn_A (c 2), zn_A (c 3), zn_A (c 4), zn_A (c 5), zn_A (c 6), zn_A (c 7), zn_A (c 8), zn_A (c 9), zn_A (c 10), a_active, a_last, a_logs, a_logSize, a_enabled, a_taken, a_exited, a_by, a_before, a_here, a_next) 7 (nI j) := by
  have vin : vp_in (nI j) 16 := vp_in_nI (by omega) (by decide)
  refine br_f (by decide) (br_f (by decide) (br_f (nI_pos (by omega)) (br_t (by decide) (br_t (nI_lt hj (by omega)) ?_))))
  refine br_f (by decide) (br_f (by decide) (br_f (by decide) (br_f (by decide) (br_f (by decide) (br_f (by decide) (br_f (by decide) (br_t rfl (And.intro vin ?_))))))))
  rw [zn_rd (c 7) (by omega)]
  exact hp
theorem zr_gx8 {post : Int32 → Prop} {j : Nat} (hn : zs_q c ≤ 16) (hj : j < zs_q c) (hp : post (nI (c 8 j))) : wpX_getField post (nI ms, nI mt, nI ev, nI mx, zr_s ph, zr_b ph, nI (zs_n c), nI (d 6 0), nI (zs_q c), f_stepAfter, f_stepTaken, f_stepExited, f_stepEntered, f_situation0, f_place1, f_found, zn_A (c 0), zn_A (c 1), zn_A (c 2), zn_A (c 3), zn_A (c 4), zn_A (d 0), zn_A (d 1), zn_A (d 2), zn_A (d 3), zn_A (c 5), zn_A (c 6), zn_A (c 7), zn_A (c 8), zn_A (c 9), zn_A (c 10), zn_A (d 4), zn_A (d 5), a_log, a_logLength, a_situations, a_stepsTo, a_nextPlace, a_takenAt, a_exitedAt, a_enteredAt) 8 (nI j) :=
  br_f (by decide) (br_t (by decide) (br_t (by decide) (zr_sf8 hn hj hp)))
theorem zr_gy8 {post : Int32 → Prop} {j : Nat} (hn : zs_q c ≤ 16) (hj : j < zs_q c) (hp : post (nI (c 8 j))) : wpY_getField post (nI ms, nI mt, nI ev, nI mx, nI ph, nI (zs_n c), nI (zs_q c), g_found, zn_A (c 0), zn_A (c 1), zn_A (c 2), zn_A (c 3), zn_A (c 4), zn_A (c 5), zn_A (c 6), zn_A (c 7), zn_A (c 8), zn_A (c 9), zn_A (c 10), a_active, a_last, a_logs, a_logSize, a_enabled, a_taken, a_exited, a_by, a_before, a_here, a_next) 8 (nI j) := by
  have vin : vp_in (nI j) 16 := vp_in_nI (by omega) (by decide)
  refine br_f (by decide) (br_f (by decide) (br_f (nI_pos (by omega)) (br_t (by decide) (br_t (nI_lt hj (by omega)) ?_))))
  refine br_f (by decide) (br_f (by decide) (br_f (by decide) (br_f (by decide) (br_f (by decide) (br_f (by decide) (br_f (by decide) (br_f (by decide) (br_t rfl (And.intro vin ?_)))))))))
  rw [zn_rd (c 8) (by omega)]
  exact hp
theorem zr_gx9 {post : Int32 → Prop} {j : Nat} (hn : zs_q c ≤ 16) (hj : j < zs_q c) (hp : post (nI (c 9 j))) : wpX_getField post (nI ms, nI mt, nI ev, nI mx, zr_s ph, zr_b ph, nI (zs_n c), nI (d 6 0), nI (zs_q c), f_stepAfter, f_stepTaken, f_stepExited, f_stepEntered, f_situation0, f_place1, f_found, zn_A (c 0), zn_A (c 1), zn_A (c 2), zn_A (c 3), zn_A (c 4), zn_A (d 0), zn_A (d 1), zn_A (d 2), zn_A (d 3), zn_A (c 5), zn_A (c 6), zn_A (c 7), zn_A (c 8), zn_A (c 9), zn_A (c 10), zn_A (d 4), zn_A (d 5), a_log, a_logLength, a_situations, a_stepsTo, a_nextPlace, a_takenAt, a_exitedAt, a_enteredAt) 9 (nI j) :=
  br_f (by decide) (br_t (by decide) (br_t (by decide) (zr_sf9 hn hj hp)))
theorem zr_gy9 {post : Int32 → Prop} {j : Nat} (hn : zs_q c ≤ 16) (hj : j < zs_q c) (hp : post (nI (c 9 j))) : wpY_getField post (nI ms, nI mt, nI ev, nI mx, nI ph, nI (zs_n c), nI (zs_q c), g_found, zn_A (c 0), zn_A (c 1), zn_A (c 2), zn_A (c 3), zn_A (c 4), zn_A (c 5), zn_A (c 6), zn_A (c 7), zn_A (c 8), zn_A (c 9), zn_A (c 10), a_active, a_last, a_logs, a_logSize, a_enabled, a_taken, a_exited, a_by, a_before, a_here, a_next) 9 (nI j) := by
  have vin : vp_in (nI j) 16 := vp_in_nI (by omega) (by decide)
  refine br_f (by decide) (br_f (by decide) (br_f (nI_pos (by omega)) (br_t (by decide) (br_t (nI_lt hj (by omega)) ?_))))
  refine br_f (by decide) (br_f (by decide) (br_f (by decide) (br_f (by decide) (br_f (by decide) (br_f (by decide) (br_f (by decide) (br_f (by decide) (br_f (by decide) (br_t rfl (And.intro vin ?_))))))))))
  rw [zn_rd (c 9) (by omega)]
  exact hp
theorem zr_gx10 {post : Int32 → Prop} {j : Nat} (hn : zs_q c ≤ 16) (hj : j < zs_q c) (hp : post (nI (c 10 j))) : wpX_getField post (nI ms, nI mt, nI ev, nI mx, zr_s ph, zr_b ph, nI (zs_n c), nI (d 6 0), nI (zs_q c), f_stepAfter, f_stepTaken, f_stepExited, f_stepEntered, f_situation0, f_place1, f_found, zn_A (c 0), zn_A (c 1), zn_A (c 2), zn_A (c 3), zn_A (c 4), zn_A (d 0), zn_A (d 1), zn_A (d 2), zn_A (d 3), zn_A (c 5), zn_A (c 6), zn_A (c 7), zn_A (c 8), zn_A (c 9), zn_A (c 10), zn_A (d 4), zn_A (d 5), a_log, a_logLength, a_situations, a_stepsTo, a_nextPlace, a_takenAt, a_exitedAt, a_enteredAt) 10 (nI j) :=
  br_f (by decide) (br_t (by decide) (br_t (by decide) (zr_sf10 hn hj hp)))
theorem zr_gy10 {post : Int32 → Prop} {j : Nat} (hn : zs_q c ≤ 16) (hj : j < zs_q c) (hp : post (nI (c 10 j))) : wpY_getField post (nI ms, nI mt, nI ev, nI mx, nI ph, nI (zs_n c), nI (zs_q c), g_found, zn_A (c 0), zn_A (c 1), zn_A (c 2), zn_A (c 3), zn_A (c 4), zn_A (c 5), zn_A (c 6), zn_A (c 7), zn_A (c 8), zn_A (c 9), zn_A (c 10), a_active, a_last, a_logs, a_logSize, a_enabled, a_taken, a_exited, a_by, a_before, a_here, a_next) 10 (nI j) := by
  have vin : vp_in (nI j) 16 := vp_in_nI (by omega) (by decide)
  refine br_f (by decide) (br_f (by decide) (br_f (nI_pos (by omega)) (br_t (by decide) (br_t (nI_lt hj (by omega)) ?_))))
  refine br_f (by decide) (br_f (by decide) (br_f (by decide) (br_f (by decide) (br_f (by decide) (br_f (by decide) (br_f (by decide) (br_f (by decide) (br_f (by decide) (br_f (by decide) (And.intro vin ?_))))))))))
  rw [zn_rd (c 10) (by omega)]
  exact hp
theorem zr_bx0 {post : Int32 → Prop} {v : Int32} (hn : zs_n c ≤ 12) (hv : v < 0 ∨ nI (zs_n c) ≤ v) (hp : post (-3)) : wpX_getField post (nI ms, nI mt, nI ev, nI mx, zr_s ph, zr_b ph, nI (zs_n c), nI (d 6 0), nI (zs_q c), f_stepAfter, f_stepTaken, f_stepExited, f_stepEntered, f_situation0, f_place1, f_found, zn_A (c 0), zn_A (c 1), zn_A (c 2), zn_A (c 3), zn_A (c 4), zn_A (d 0), zn_A (d 1), zn_A (d 2), zn_A (d 3), zn_A (c 5), zn_A (c 6), zn_A (c 7), zn_A (c 8), zn_A (c 9), zn_A (c 10), zn_A (d 4), zn_A (d 5), a_log, a_logLength, a_situations, a_stepsTo, a_nextPlace, a_takenAt, a_exitedAt, a_enteredAt) 0 v := by
  refine br_f (by decide) (br_t (by decide) (br_f (by decide) ?_))
  unfold wpX_stateField
  rcases hv with h | h
  · exact zr_isn h (br_t rfl hp)
  · exact zr_isb hn h (br_t rfl hp)
theorem zr_by0 {post : Int32 → Prop} {v : Int32} (hn : zs_n c ≤ 12) (hv : v < 0 ∨ nI (zs_n c) ≤ v) (hp : post (-3)) : wpY_getField post (nI ms, nI mt, nI ev, nI mx, nI ph, nI (zs_n c), nI (zs_q c), g_found, zn_A (c 0), zn_A (c 1), zn_A (c 2), zn_A (c 3), zn_A (c 4), zn_A (c 5), zn_A (c 6), zn_A (c 7), zn_A (c 8), zn_A (c 9), zn_A (c 10), a_active, a_last, a_logs, a_logSize, a_enabled, a_taken, a_exited, a_by, a_before, a_here, a_next) 0 v := by
  refine br_f (by decide) (br_f (by decide) ?_)
  rcases hv with h | h
  · exact br_t h hp
  · exact br_f (zr_nn (by omega) h) (br_f (by decide) (br_f (zr_nlt h) hp))
theorem zr_bx1 {post : Int32 → Prop} {v : Int32} (hn : zs_n c ≤ 12) (hv : v < 0 ∨ nI (zs_n c) ≤ v) (hp : post (-3)) : wpX_getField post (nI ms, nI mt, nI ev, nI mx, zr_s ph, zr_b ph, nI (zs_n c), nI (d 6 0), nI (zs_q c), f_stepAfter, f_stepTaken, f_stepExited, f_stepEntered, f_situation0, f_place1, f_found, zn_A (c 0), zn_A (c 1), zn_A (c 2), zn_A (c 3), zn_A (c 4), zn_A (d 0), zn_A (d 1), zn_A (d 2), zn_A (d 3), zn_A (c 5), zn_A (c 6), zn_A (c 7), zn_A (c 8), zn_A (c 9), zn_A (c 10), zn_A (d 4), zn_A (d 5), a_log, a_logLength, a_situations, a_stepsTo, a_nextPlace, a_takenAt, a_exitedAt, a_enteredAt) 1 v := by
  refine br_f (by decide) (br_t (by decide) (br_f (by decide) ?_))
  unfold wpX_stateField
  rcases hv with h | h
  · exact zr_isn h (br_t rfl hp)
  · exact zr_isb hn h (br_t rfl hp)
theorem zr_by1 {post : Int32 → Prop} {v : Int32} (hn : zs_n c ≤ 12) (hv : v < 0 ∨ nI (zs_n c) ≤ v) (hp : post (-3)) : wpY_getField post (nI ms, nI mt, nI ev, nI mx, nI ph, nI (zs_n c), nI (zs_q c), g_found, zn_A (c 0), zn_A (c 1), zn_A (c 2), zn_A (c 3), zn_A (c 4), zn_A (c 5), zn_A (c 6), zn_A (c 7), zn_A (c 8), zn_A (c 9), zn_A (c 10), a_active, a_last, a_logs, a_logSize, a_enabled, a_taken, a_exited, a_by, a_before, a_here, a_next) 1 v := by
  refine br_f (by decide) (br_f (by decide) ?_)
  rcases hv with h | h
  · exact br_t h hp
  · exact br_f (zr_nn (by omega) h) (br_f (by decide) (br_f (zr_nlt h) hp))
theorem zr_bx2 {post : Int32 → Prop} {v : Int32} (hn : zs_n c ≤ 12) (hv : v < 0 ∨ nI (zs_n c) ≤ v) (hp : post (-3)) : wpX_getField post (nI ms, nI mt, nI ev, nI mx, zr_s ph, zr_b ph, nI (zs_n c), nI (d 6 0), nI (zs_q c), f_stepAfter, f_stepTaken, f_stepExited, f_stepEntered, f_situation0, f_place1, f_found, zn_A (c 0), zn_A (c 1), zn_A (c 2), zn_A (c 3), zn_A (c 4), zn_A (d 0), zn_A (d 1), zn_A (d 2), zn_A (d 3), zn_A (c 5), zn_A (c 6), zn_A (c 7), zn_A (c 8), zn_A (c 9), zn_A (c 10), zn_A (d 4), zn_A (d 5), a_log, a_logLength, a_situations, a_stepsTo, a_nextPlace, a_takenAt, a_exitedAt, a_enteredAt) 2 v := by
  refine br_f (by decide) (br_t (by decide) (br_f (by decide) ?_))
  unfold wpX_stateField
  rcases hv with h | h
  · exact zr_isn h (br_t rfl hp)
  · exact zr_isb hn h (br_t rfl hp)
theorem zr_by2 {post : Int32 → Prop} {v : Int32} (hn : zs_n c ≤ 12) (hv : v < 0 ∨ nI (zs_n c) ≤ v) (hp : post (-3)) : wpY_getField post (nI ms, nI mt, nI ev, nI mx, nI ph, nI (zs_n c), nI (zs_q c), g_found, zn_A (c 0), zn_A (c 1), zn_A (c 2), zn_A (c 3), zn_A (c 4), zn_A (c 5), zn_A (c 6), zn_A (c 7), zn_A (c 8), zn_A (c 9), zn_A (c 10), a_active, a_last, a_logs, a_logSize, a_enabled, a_taken, a_exited, a_by, a_before, a_here, a_next) 2 v := by
  refine br_f (by decide) (br_f (by decide) ?_)
  rcases hv with h | h
  · exact br_t h hp
  · exact br_f (zr_nn (by omega) h) (br_f (by decide) (br_f (zr_nlt h) hp))
theorem zr_bx3 {post : Int32 → Prop} {v : Int32} (hn : zs_n c ≤ 12) (hv : v < 0 ∨ nI (zs_n c) ≤ v) (hp : post (-3)) : wpX_getField post (nI ms, nI mt, nI ev, nI mx, zr_s ph, zr_b ph, nI (zs_n c), nI (d 6 0), nI (zs_q c), f_stepAfter, f_stepTaken, f_stepExited, f_stepEntered, f_situation0, f_place1, f_found, zn_A (c 0), zn_A (c 1), zn_A (c 2), zn_A (c 3), zn_A (c 4), zn_A (d 0), zn_A (d 1), zn_A (d 2), zn_A (d 3), zn_A (c 5), zn_A (c 6), zn_A (c 7), zn_A (c 8), zn_A (c 9), zn_A (c 10), zn_A (d 4), zn_A (d 5), a_log, a_logLength, a_situations, a_stepsTo, a_nextPlace, a_takenAt, a_exitedAt, a_enteredAt) 3 v := by
  refine br_f (by decide) (br_t (by decide) (br_f (by decide) ?_))
  unfold wpX_stateField
  rcases hv with h | h
  · exact zr_isn h (br_t rfl hp)
  · exact zr_isb hn h (br_t rfl hp)
theorem zr_by3 {post : Int32 → Prop} {v : Int32} (hn : zs_n c ≤ 12) (hv : v < 0 ∨ nI (zs_n c) ≤ v) (hp : post (-3)) : wpY_getField post (nI ms, nI mt, nI ev, nI mx, nI ph, nI (zs_n c), nI (zs_q c), g_found, zn_A (c 0), zn_A (c 1), zn_A (c 2), zn_A (c 3), zn_A (c 4), zn_A (c 5), zn_A (c 6), zn_A (c 7), zn_A (c 8), zn_A (c 9), zn_A (c 10), a_active, a_last, a_logs, a_logSize, a_enabled, a_taken, a_exited, a_by, a_before, a_here, a_next) 3 v := by
  refine br_f (by decide) (br_f (by decide) ?_)
  rcases hv with h | h
  · exact br_t h hp
  · exact br_f (zr_nn (by omega) h) (br_f (by decide) (br_f (zr_nlt h) hp))
theorem zr_bx4 {post : Int32 → Prop} {v : Int32} (hn : zs_n c ≤ 12) (hv : v < 0 ∨ nI (zs_n c) ≤ v) (hp : post (-3)) : wpX_getField post (nI ms, nI mt, nI ev, nI mx, zr_s ph, zr_b ph, nI (zs_n c), nI (d 6 0), nI (zs_q c), f_stepAfter, f_stepTaken, f_stepExited, f_stepEntered, f_situation0, f_place1, f_found, zn_A (c 0), zn_A (c 1), zn_A (c 2), zn_A (c 3), zn_A (c 4), zn_A (d 0), zn_A (d 1), zn_A (d 2), zn_A (d 3), zn_A (c 5), zn_A (c 6), zn_A (c 7), zn_A (c 8), zn_A (c 9), zn_A (c 10), zn_A (d 4), zn_A (d 5), a_log, a_logLength, a_situations, a_stepsTo, a_nextPlace, a_takenAt, a_exitedAt, a_enteredAt) 4 v := by
  refine br_f (by decide) (br_t (by decide) (br_f (by decide) ?_))
  unfold wpX_stateField
  rcases hv with h | h
  · exact zr_isn h (br_t rfl hp)
  · exact zr_isb hn h (br_t rfl hp)
theorem zr_by4 {post : Int32 → Prop} {v : Int32} (hn : zs_n c ≤ 12) (hv : v < 0 ∨ nI (zs_n c) ≤ v) (hp : post (-3)) : wpY_getField post (nI ms, nI mt, nI ev, nI mx, nI ph, nI (zs_n c), nI (zs_q c), g_found, zn_A (c 0), zn_A (c 1), zn_A (c 2), zn_A (c 3), zn_A (c 4), zn_A (c 5), zn_A (c 6), zn_A (c 7), zn_A (c 8), zn_A (c 9), zn_A (c 10), a_active, a_last, a_logs, a_logSize, a_enabled, a_taken, a_exited, a_by, a_before, a_here, a_next) 4 v := by
  refine br_f (by decide) (br_f (by decide) ?_)
  rcases hv with h | h
  · exact br_t h hp
  · exact br_f (zr_nn (by omega) h) (br_f (by decide) (br_f (zr_nlt h) hp))
theorem zr_bx5 {post : Int32 → Prop} {v : Int32} (hn : zs_q c ≤ 16) (hv : v < 0 ∨ nI (zs_q c) ≤ v) (hp : post (-3)) : wpX_getField post (nI ms, nI mt, nI ev, nI mx, zr_s ph, zr_b ph, nI (zs_n c), nI (d 6 0), nI (zs_q c), f_stepAfter, f_stepTaken, f_stepExited, f_stepEntered, f_situation0, f_place1, f_found, zn_A (c 0), zn_A (c 1), zn_A (c 2), zn_A (c 3), zn_A (c 4), zn_A (d 0), zn_A (d 1), zn_A (d 2), zn_A (d 3), zn_A (c 5), zn_A (c 6), zn_A (c 7), zn_A (c 8), zn_A (c 9), zn_A (c 10), zn_A (d 4), zn_A (d 5), a_log, a_logLength, a_situations, a_stepsTo, a_nextPlace, a_takenAt, a_exitedAt, a_enteredAt) 5 v := by
  refine br_f (by decide) (br_t (by decide) (br_t (by decide) ?_))
  unfold wpX_transitionField
  rcases hv with h | h
  · exact zr_itn h (br_t rfl hp)
  · exact zr_itb hn h (br_t rfl hp)
theorem zr_by5 {post : Int32 → Prop} {v : Int32} (hn : zs_q c ≤ 16) (hv : v < 0 ∨ nI (zs_q c) ≤ v) (hp : post (-3)) : wpY_getField post (nI ms, nI mt, nI ev, nI mx, nI ph, nI (zs_n c), nI (zs_q c), g_found, zn_A (c 0), zn_A (c 1), zn_A (c 2), zn_A (c 3), zn_A (c 4), zn_A (c 5), zn_A (c 6), zn_A (c 7), zn_A (c 8), zn_A (c 9), zn_A (c 10), a_active, a_last, a_logs, a_logSize, a_enabled, a_taken, a_exited, a_by, a_before, a_here, a_next) 5 v := by
  refine br_f (by decide) (br_f (by decide) ?_)
  rcases hv with h | h
  · exact br_t h hp
  · exact br_f (zr_nn (by omega) h) (br_t (by decide) (br_f (zr_nlt h) hp))
theorem zr_bx6 {post : Int32 → Prop} {v : Int32} (hn : zs_q c ≤ 16) (hv : v < 0 ∨ nI (zs_q c) ≤ v) (hp : post (-3)) : wpX_getField post (nI ms, nI mt, nI ev, nI mx, zr_s ph, zr_b ph, nI (zs_n c), nI (d 6 0), nI (zs_q c), f_stepAfter, f_stepTaken, f_stepExited, f_stepEntered, f_situation0, f_place1, f_found, zn_A (c 0), zn_A (c 1), zn_A (c 2), zn_A (c 3), zn_A (c 4), zn_A (d 0), zn_A (d 1), zn_A (d 2), zn_A (d 3), zn_A (c 5), zn_A (c 6), zn_A (c 7), zn_A (c 8), zn_A (c 9), zn_A (c 10), zn_A (d 4), zn_A (d 5), a_log, a_logLength, a_situations, a_stepsTo, a_nextPlace, a_takenAt, a_exitedAt, a_enteredAt) 6 v := by
  refine br_f (by decide) (br_t (by decide) (br_t (by decide) ?_))
  unfold wpX_transitionField
  rcases hv with h | h
  · exact zr_itn h (br_t rfl hp)
  · exact zr_itb hn h (br_t rfl hp)
theorem zr_by6 {post : Int32 → Prop} {v : Int32} (hn : zs_q c ≤ 16) (hv : v < 0 ∨ nI (zs_q c) ≤ v) (hp : post (-3)) : wpY_getField post (nI ms, nI mt, nI ev, nI mx, nI ph, nI (zs_n c), nI (zs_q c), g_found, zn_A (c 0), zn_A (c 1), zn_A (c 2), zn_A (c 3), zn_A (c 4), zn_A (c 5), zn_A (c 6), zn_A (c 7), zn_A (c 8), zn_A (c 9), zn_A (c 10), a_active, a_last, a_logs, a_logSize, a_enabled, a_taken, a_exited, a_by, a_before, a_here, a_next) 6 v := by
  refine br_f (by decide) (br_f (by decide) ?_)
  rcases hv with h | h
  · exact br_t h hp
  · exact br_f (zr_nn (by omega) h) (br_t (by decide) (br_f (zr_nlt h) hp))
theorem zr_bx7 {post : Int32 → Prop} {v : Int32} (hn : zs_q c ≤ 16) (hv : v < 0 ∨ nI (zs_q c) ≤ v) (hp : post (-3)) : wpX_getField post (nI ms, nI mt, nI ev, nI mx, zr_s ph, zr_b ph, nI (zs_n c), nI (d 6 0), nI (zs_q c), f_stepAfter, f_stepTaken, f_stepExited, f_stepEntered, f_situation0, f_place1, f_found, zn_A (c 0), zn_A (c 1), zn_A (c 2), zn_A (c 3), zn_A (c 4), zn_A (d 0), zn_A (d 1), zn_A (d 2), zn_A (d 3), zn_A (c 5), zn_A (c 6), zn_A (c 7), zn_A (c 8), zn_A (c 9), zn_A (c 10), zn_A (d 4), zn_A (d 5), a_log, a_logLength, a_situations, a_stepsTo, a_nextPlace, a_takenAt, a_exitedAt, a_enteredAt) 7 v := by
  refine br_f (by decide) (br_t (by decide) (br_t (by decide) ?_))
  unfold wpX_transitionField
  rcases hv with h | h
  · exact zr_itn h (br_t rfl hp)
  · exact zr_itb hn h (br_t rfl hp)
theorem zr_by7 {post : Int32 → Prop} {v : Int32} (hn : zs_q c ≤ 16) (hv : v < 0 ∨ nI (zs_q c) ≤ v) (hp : post (-3)) : wpY_getField post (nI ms, nI mt, nI ev, nI mx, nI ph, nI (zs_n c), nI (zs_q c), g_found, zn_A (c 0), zn_A (c 1), zn_A (c 2), zn_A (c 3), zn_A (c 4), zn_A (c 5), zn_A (c 6), zn_A (c 7), zn_A (c 8), zn_A (c 9), zn_A (c 10), a_active, a_last, a_logs, a_logSize, a_enabled, a_taken, a_exited, a_by, a_before, a_here, a_next) 7 v := by
  refine br_f (by decide) (br_f (by decide) ?_)
  rcases hv with h | h
  · exact br_t h hp
  · exact br_f (zr_nn (by omega) h) (br_t (by decide) (br_f (zr_nlt h) hp))
theorem zr_bx8 {post : Int32 → Prop} {v : Int32} (hn : zs_q c ≤ 16) (hv : v < 0 ∨ nI (zs_q c) ≤ v) (hp : post (-3)) : wpX_getField post (nI ms, nI mt, nI ev, nI mx, zr_s ph, zr_b ph, nI (zs_n c), nI (d 6 0), nI (zs_q c), f_stepAfter, f_stepTaken, f_stepExited, f_stepEntered, f_situation0, f_place1, f_found, zn_A (c 0), zn_A (c 1), zn_A (c 2), zn_A (c 3), zn_A (c 4), zn_A (d 0), zn_A (d 1), zn_A (d 2), zn_A (d 3), zn_A (c 5), zn_A (c 6), zn_A (c 7), zn_A (c 8), zn_A (c 9), zn_A (c 10), zn_A (d 4), zn_A (d 5), a_log, a_logLength, a_situations, a_stepsTo, a_nextPlace, a_takenAt, a_exitedAt, a_enteredAt) 8 v := by
  refine br_f (by decide) (br_t (by decide) (br_t (by decide) ?_))
  unfold wpX_transitionField
  rcases hv with h | h
  · exact zr_itn h (br_t rfl hp)
  · exact zr_itb hn h (br_t rfl hp)
theorem zr_by8 {post : Int32 → Prop} {v : Int32} (hn : zs_q c ≤ 16) (hv : v < 0 ∨ nI (zs_q c) ≤ v) (hp : post (-3)) : wpY_getField post (nI ms, nI mt, nI ev, nI mx, nI ph, nI (zs_n c), nI (zs_q c), g_found, zn_A (c 0), zn_A (c 1), zn_A (c 2), zn_A (c 3), zn_A (c 4), zn_A (c 5), zn_A (c 6), zn_A (c 7), zn_A (c 8), zn_A (c 9), zn_A (c 10), a_active, a_last, a_logs, a_logSize, a_enabled, a_taken, a_exited, a_by, a_before, a_here, a_next) 8 v := by
  refine br_f (by decide) (br_f (by decide) ?_)
  rcases hv with h | h
  · exact br_t h hp
  · exact br_f (zr_nn (by omega) h) (br_t (by decide) (br_f (zr_nlt h) hp))
theorem zr_bx9 {post : Int32 → Prop} {v : Int32} (hn : zs_q c ≤ 16) (hv : v < 0 ∨ nI (zs_q c) ≤ v) (hp : post (-3)) : wpX_getField post (nI ms, nI mt, nI ev, nI mx, zr_s ph, zr_b ph, nI (zs_n c), nI (d 6 0), nI (zs_q c), f_stepAfter, f_stepTaken, f_stepExited, f_stepEntered, f_situation0, f_place1, f_found, zn_A (c 0), zn_A (c 1), zn_A (c 2), zn_A (c 3), zn_A (c 4), zn_A (d 0), zn_A (d 1), zn_A (d 2), zn_A (d 3), zn_A (c 5), zn_A (c 6), zn_A (c 7), zn_A (c 8), zn_A (c 9), zn_A (c 10), zn_A (d 4), zn_A (d 5), a_log, a_logLength, a_situations, a_stepsTo, a_nextPlace, a_takenAt, a_exitedAt, a_enteredAt) 9 v := by
  refine br_f (by decide) (br_t (by decide) (br_t (by decide) ?_))
  unfold wpX_transitionField
  rcases hv with h | h
  · exact zr_itn h (br_t rfl hp)
  · exact zr_itb hn h (br_t rfl hp)
theorem zr_by9 {post : Int32 → Prop} {v : Int32} (hn : zs_q c ≤ 16) (hv : v < 0 ∨ nI (zs_q c) ≤ v) (hp : post (-3)) : wpY_getField post (nI ms, nI mt, nI ev, nI mx, nI ph, nI (zs_n c), nI (zs_q c), g_found, zn_A (c 0), zn_A (c 1), zn_A (c 2), zn_A (c 3), zn_A (c 4), zn_A (c 5), zn_A (c 6), zn_A (c 7), zn_A (c 8), zn_A (c 9), zn_A (c 10), a_active, a_last, a_logs, a_logSize, a_enabled, a_taken, a_exited, a_by, a_before, a_here, a_next) 9 v := by
  refine br_f (by decide) (br_f (by decide) ?_)
  rcases hv with h | h
  · exact br_t h hp
  · exact br_f (zr_nn (by omega) h) (br_t (by decide) (br_f (zr_nlt h) hp))
theorem zr_bx10 {post : Int32 → Prop} {v : Int32} (hn : zs_q c ≤ 16) (hv : v < 0 ∨ nI (zs_q c) ≤ v) (hp : post (-3)) : wpX_getField post (nI ms, nI mt, nI ev, nI mx, zr_s ph, zr_b ph, nI (zs_n c), nI (d 6 0), nI (zs_q c), f_stepAfter, f_stepTaken, f_stepExited, f_stepEntered, f_situation0, f_place1, f_found, zn_A (c 0), zn_A (c 1), zn_A (c 2), zn_A (c 3), zn_A (c 4), zn_A (d 0), zn_A (d 1), zn_A (d 2), zn_A (d 3), zn_A (c 5), zn_A (c 6), zn_A (c 7), zn_A (c 8), zn_A (c 9), zn_A (c 10), zn_A (d 4), zn_A (d 5), a_log, a_logLength, a_situations, a_stepsTo, a_nextPlace, a_takenAt, a_exitedAt, a_enteredAt) 10 v := by
  refine br_f (by decide) (br_t (by decide) (br_t (by decide) ?_))
  unfold wpX_transitionField
  rcases hv with h | h
  · exact zr_itn h (br_t rfl hp)
  · exact zr_itb hn h (br_t rfl hp)
theorem zr_by10 {post : Int32 → Prop} {v : Int32} (hn : zs_q c ≤ 16) (hv : v < 0 ∨ nI (zs_q c) ≤ v) (hp : post (-3)) : wpY_getField post (nI ms, nI mt, nI ev, nI mx, nI ph, nI (zs_n c), nI (zs_q c), g_found, zn_A (c 0), zn_A (c 1), zn_A (c 2), zn_A (c 3), zn_A (c 4), zn_A (c 5), zn_A (c 6), zn_A (c 7), zn_A (c 8), zn_A (c 9), zn_A (c 10), a_active, a_last, a_logs, a_logSize, a_enabled, a_taken, a_exited, a_by, a_before, a_here, a_next) 10 v := by
  refine br_f (by decide) (br_f (by decide) ?_)
  rcases hv with h | h
  · exact br_t h hp
  · exact br_f (zr_nn (by omega) h) (br_t (by decide) (br_f (zr_nlt h) hp))
end ZVF
end
section
section ZVG
/-! the calls getField and setField -/
theorem zr_f11 {f : Nat} (h : f < 11) : f = 0 ∨ f = 1 ∨ f = 2 ∨ f = 3 ∨ f = 4 ∨ f = 5 ∨ f = 6 ∨ f = 7 ∨ f = 8 ∨ f = 9 ∨ f = 10 := by omega
theorem zr_ge11 {v : Int32} (h : nI 11 ≤ v) : ¬ v < 0 ∧ ¬ v ≤ 10 ∧ 10 < v ∧ ¬ v < 2 := by
  have e11 : (nI 11).toInt = 11 := by decide
  have e0 : (0 : Int32).toInt = 0 := by decide
  have e10 : (10 : Int32).toInt = 10 := by decide
  have e2 : (2 : Int32).toInt = 2 := by decide
  rw [Int32.le_iff_toInt_le] at h
  refine ⟨?_, ?_, ?_, ?_⟩
  · rw [Int32.lt_iff_toInt_lt]; omega
  · rw [Int32.le_iff_toInt_le]; omega
  · rw [Int32.lt_iff_toInt_lt]; omega
  · rw [Int32.lt_iff_toInt_lt]; omega
theorem zr_lt2v {v : Int32} (h : v < 0) : v < 2 := by
  have e0 : (0 : Int32).toInt = 0 := by decide
  have e2 : (2 : Int32).toInt = 2 := by decide
  rw [Int32.lt_iff_toInt_lt] at h ⊢
  omega
theorem zr_pos3 {x : Nat} (h : x < 2 ^ 31) : 0 ≤ nI x := nI_pos' h
theorem zr_n3 : ¬ (0 : Int32) ≤ -3 := by decide
theorem i_vc_getField {k : Nat} {u : SX} {v : SY} (I : i_Rel k u v) (hk : k + 5 ≤ 2564) (v1 : Int32) (v2 : Int32) : wpX_getField (fun r => wpY_getField (fun r' => r' = r ∧ i_Rel (k + 5) u v) v v1 v2) u v1 v2 := by
  refine zr_el (P := fun u v => wpX_getField (fun r => wpY_getField (fun r' => r' = r ∧ i_Rel (k + 5) u v) v v1 v2) u v1 v2) I ?_
  intro c d ms mt ev mx ph f_stepAfter f_stepTaken f_stepExited f_stepEntered f_situation0 f_place1 f_found g_found a_log a_logLength a_situations a_stepsTo a_nextPlace a_takenAt a_exitedAt a_enteredAt a_active a_last a_logs a_logSize a_enabled a_taken a_exited a_by a_before a_here a_next hC hL hP
  have hR : i_Rel (k + 5) (nI ms, nI mt, nI ev, nI mx, zr_s ph, zr_b ph, nI (zs_n c), nI (d 6 0), nI (zs_q c), f_stepAfter, f_stepTaken, f_stepExited, f_stepEntered, f_situation0, f_place1, f_found, zn_A (c 0), zn_A (c 1), zn_A (c 2), zn_A (c 3), zn_A (c 4), zn_A (d 0), zn_A (d 1), zn_A (d 2), zn_A (d 3), zn_A (c 5), zn_A (c 6), zn_A (c 7), zn_A (c 8), zn_A (c 9), zn_A (c 10), zn_A (d 4), zn_A (d 5), a_log, a_logLength, a_situations, a_stepsTo, a_nextPlace, a_takenAt, a_exitedAt, a_enteredAt) (nI ms, nI mt, nI ev, nI mx, nI ph, nI (zs_n c), nI (zs_q c), g_found, zn_A (c 0), zn_A (c 1), zn_A (c 2), zn_A (c 3), zn_A (c 4), zn_A (c 5), zn_A (c 6), zn_A (c 7), zn_A (c 8), zn_A (c 9), zn_A (c 10), a_active, a_last, a_logs, a_logSize, a_enabled, a_taken, a_exited, a_by, a_before, a_here, a_next) := zr_in hC hL hP
  have hG := hC.1
  have hn := zs_Gn hG
  rcases pk_ix v1 (n := 11) (by decide) with h | h | ⟨f, hf, rfl⟩
  · exact br_t h (br_t h ⟨rfl, hR⟩)
  · have a := zr_ge11 h
    exact br_f a.1 (br_f a.2.1 (br_f a.1 (br_t a.2.2.1 ⟨rfl, hR⟩)))
  · rcases zr_f11 hf with rfl | rfl | rfl | rfl | rfl | rfl | rfl | rfl | rfl | rfl | rfl
    · rcases pk_ix v2 (n := zs_n c) (by omega) with h | h | ⟨j, hj, rfl⟩
      · exact zr_bx0 hn.2.1 (Or.inl h) (zr_by0 hn.2.1 (Or.inl h) ⟨rfl, hR⟩)
      · exact zr_bx0 hn.2.1 (Or.inr h) (zr_by0 hn.2.1 (Or.inr h) ⟨rfl, hR⟩)
      · exact zr_gx0 hn.2.1 hj (zr_gy0 hn.2.1 hj ⟨rfl, hR⟩)
    · rcases pk_ix v2 (n := zs_n c) (by omega) with h | h | ⟨j, hj, rfl⟩
      · exact zr_bx1 hn.2.1 (Or.inl h) (zr_by1 hn.2.1 (Or.inl h) ⟨rfl, hR⟩)
      · exact zr_bx1 hn.2.1 (Or.inr h) (zr_by1 hn.2.1 (Or.inr h) ⟨rfl, hR⟩)
      · exact zr_gx1 hn.2.1 hj (zr_gy1 hn.2.1 hj ⟨rfl, hR⟩)
    · rcases pk_ix v2 (n := zs_n c) (by omega) with h | h | ⟨j, hj, rfl⟩
      · exact zr_bx2 hn.2.1 (Or.inl h) (zr_by2 hn.2.1 (Or.inl h) ⟨rfl, hR⟩)
      · exact zr_bx2 hn.2.1 (Or.inr h) (zr_by2 hn.2.1 (Or.inr h) ⟨rfl, hR⟩)
      · exact zr_gx2 hn.2.1 hj (zr_gy2 hn.2.1 hj ⟨rfl, hR⟩)
    · rcases pk_ix v2 (n := zs_n c) (by omega) with h | h | ⟨j, hj, rfl⟩
      · exact zr_bx3 hn.2.1 (Or.inl h) (zr_by3 hn.2.1 (Or.inl h) ⟨rfl, hR⟩)
      · exact zr_bx3 hn.2.1 (Or.inr h) (zr_by3 hn.2.1 (Or.inr h) ⟨rfl, hR⟩)
      · exact zr_gx3 hn.2.1 hj (zr_gy3 hn.2.1 hj ⟨rfl, hR⟩)
    · rcases pk_ix v2 (n := zs_n c) (by omega) with h | h | ⟨j, hj, rfl⟩
      · exact zr_bx4 hn.2.1 (Or.inl h) (zr_by4 hn.2.1 (Or.inl h) ⟨rfl, hR⟩)
      · exact zr_bx4 hn.2.1 (Or.inr h) (zr_by4 hn.2.1 (Or.inr h) ⟨rfl, hR⟩)
      · exact zr_gx4 hn.2.1 hj (zr_gy4 hn.2.1 hj ⟨rfl, hR⟩)
    · rcases pk_ix v2 (n := zs_q c) (by omega) with h | h | ⟨j, hj, rfl⟩
      · exact zr_bx5 hn.2.2.1 (Or.inl h) (zr_by5 hn.2.2.1 (Or.inl h) ⟨rfl, hR⟩)
      · exact zr_bx5 hn.2.2.1 (Or.inr h) (zr_by5 hn.2.2.1 (Or.inr h) ⟨rfl, hR⟩)
      · exact zr_gx5 hn.2.2.1 hj (zr_gy5 hn.2.2.1 hj ⟨rfl, hR⟩)
    · rcases pk_ix v2 (n := zs_q c) (by omega) with h | h | ⟨j, hj, rfl⟩
      · exact zr_bx6 hn.2.2.1 (Or.inl h) (zr_by6 hn.2.2.1 (Or.inl h) ⟨rfl, hR⟩)
      · exact zr_bx6 hn.2.2.1 (Or.inr h) (zr_by6 hn.2.2.1 (Or.inr h) ⟨rfl, hR⟩)
      · exact zr_gx6 hn.2.2.1 hj (zr_gy6 hn.2.2.1 hj ⟨rfl, hR⟩)
    · rcases pk_ix v2 (n := zs_q c) (by omega) with h | h | ⟨j, hj, rfl⟩
      · exact zr_bx7 hn.2.2.1 (Or.inl h) (zr_by7 hn.2.2.1 (Or.inl h) ⟨rfl, hR⟩)
      · exact zr_bx7 hn.2.2.1 (Or.inr h) (zr_by7 hn.2.2.1 (Or.inr h) ⟨rfl, hR⟩)
      · exact zr_gx7 hn.2.2.1 hj (zr_gy7 hn.2.2.1 hj ⟨rfl, hR⟩)
    · rcases pk_ix v2 (n := zs_q c) (by omega) with h | h | ⟨j, hj, rfl⟩
      · exact zr_bx8 hn.2.2.1 (Or.inl h) (zr_by8 hn.2.2.1 (Or.inl h) ⟨rfl, hR⟩)
      · exact zr_bx8 hn.2.2.1 (Or.inr h) (zr_by8 hn.2.2.1 (Or.inr h) ⟨rfl, hR⟩)
      · exact zr_gx8 hn.2.2.1 hj (zr_gy8 hn.2.2.1 hj ⟨rfl, hR⟩)
    · rcases pk_ix v2 (n := zs_q c) (by omega) with h | h | ⟨j, hj, rfl⟩
      · exact zr_bx9 hn.2.2.1 (Or.inl h) (zr_by9 hn.2.2.1 (Or.inl h) ⟨rfl, hR⟩)
      · exact zr_bx9 hn.2.2.1 (Or.inr h) (zr_by9 hn.2.2.1 (Or.inr h) ⟨rfl, hR⟩)
      · exact zr_gx9 hn.2.2.1 hj (zr_gy9 hn.2.2.1 hj ⟨rfl, hR⟩)
    · rcases pk_ix v2 (n := zs_q c) (by omega) with h | h | ⟨j, hj, rfl⟩
      · exact zr_bx10 hn.2.2.1 (Or.inl h) (zr_by10 hn.2.2.1 (Or.inl h) ⟨rfl, hR⟩)
      · exact zr_bx10 hn.2.2.1 (Or.inr h) (zr_by10 hn.2.2.1 (Or.inr h) ⟨rfl, hR⟩)
      · exact zr_gx10 hn.2.2.1 hj (zr_gy10 hn.2.2.1 hj ⟨rfl, hR⟩)
variable {c d : Nat → Nat → Nat} {ms mt ev mx ph : Nat}
variable {f_stepAfter f_situation0 : Int64} {f_stepTaken f_stepExited f_stepEntered f_place1 f_found : Int32} {a_log a_logLength a_stepsTo a_nextPlace a_takenAt a_exitedAt a_enteredAt : Nat → Int32} {a_situations : Nat → Int64}
variable {g_found : Int32} {a_active a_last a_logs a_logSize a_enabled a_taken a_exited a_by a_before a_here a_next : Nat → Int32}
theorem zr_no0 {post : Int32 → SY → Prop} (hG : zs_G c ev) (v2 v3 : Int32) (hp : post (-3) (nI ms, nI mt, nI ev, nI mx, nI 0, nI (zs_n c), nI (zs_q c), g_found, zn_A (c 0), zn_A (c 1), zn_A (c 2), zn_A (c 3), zn_A (c 4), zn_A (c 5), zn_A (c 6), zn_A (c 7), zn_A (c 8), zn_A (c 9), zn_A (c 10), a_active, a_last, a_logs, a_logSize, a_enabled, a_taken, a_exited, a_by, a_before, a_here, a_next)) : wpY_setField post (nI ms, nI mt, nI ev, nI mx, nI 0, nI (zs_n c), nI (zs_q c), g_found, zn_A (c 0), zn_A (c 1), zn_A (c 2), zn_A (c 3), zn_A (c 4), zn_A (c 5), zn_A (c 6), zn_A (c 7), zn_A (c 8), zn_A (c 9), zn_A (c 10), a_active, a_last, a_logs, a_logSize, a_enabled, a_taken, a_exited, a_by, a_before, a_here, a_next) 0 v2 v3 := by
  have hn := zs_Gn hG
  refine br_t rfl ?_
  rcases pk_ix v2 (n := zs_n c) (by omega) with h | h | ⟨j, hj, rfl⟩
  · exact zr_by0 (ph := 0) hn.2.1 (Or.inl h) (br_f zr_n3 hp)
  · exact zr_by0 (ph := 0) hn.2.1 (Or.inr h) (br_f zr_n3 hp)
  · exact zr_gy0 (ph := 0) hn.2.1 hj (br_t (zr_pos3 (zs_Gb hG 0 j)) (br_f (by decide) (br_f (by decide) (br_f (by decide) (br_f (by decide) (br_f (by decide) hp))))))
theorem zr_no1 {post : Int32 → SY → Prop} (hG : zs_G c ev) (v2 v3 : Int32) (hp : post (-3) (nI ms, nI mt, nI ev, nI mx, nI 0, nI (zs_n c), nI (zs_q c), g_found, zn_A (c 0), zn_A (c 1), zn_A (c 2), zn_A (c 3), zn_A (c 4), zn_A (c 5), zn_A (c 6), zn_A (c 7), zn_A (c 8), zn_A (c 9), zn_A (c 10), a_active, a_last, a_logs, a_logSize, a_enabled, a_taken, a_exited, a_by, a_before, a_here, a_next)) : wpY_setField post (nI ms, nI mt, nI ev, nI mx, nI 0, nI (zs_n c), nI (zs_q c), g_found, zn_A (c 0), zn_A (c 1), zn_A (c 2), zn_A (c 3), zn_A (c 4), zn_A (c 5), zn_A (c 6), zn_A (c 7), zn_A (c 8), zn_A (c 9), zn_A (c 10), a_active, a_last, a_logs, a_logSize, a_enabled, a_taken, a_exited, a_by, a_before, a_here, a_next) 1 v2 v3 := by
  have hn := zs_Gn hG
  refine br_t rfl ?_
  rcases pk_ix v2 (n := zs_n c) (by omega) with h | h | ⟨j, hj, rfl⟩
  · exact zr_by1 (ph := 0) hn.2.1 (Or.inl h) (br_f zr_n3 hp)
  · exact zr_by1 (ph := 0) hn.2.1 (Or.inr h) (br_f zr_n3 hp)
  · exact zr_gy1 (ph := 0) hn.2.1 hj (br_t (zr_pos3 (zs_Gb hG 1 j)) (br_f (by decide) (br_f (by decide) (br_f (by decide) (br_f (by decide) (br_f (by decide) hp))))))
theorem zr_no5 {post : Int32 → SY → Prop} (hG : zs_G c ev) (v2 v3 : Int32) (hp : post (-3) (nI ms, nI mt, nI ev, nI mx, nI 0, nI (zs_n c), nI (zs_q c), g_found, zn_A (c 0), zn_A (c 1), zn_A (c 2), zn_A (c 3), zn_A (c 4), zn_A (c 5), zn_A (c 6), zn_A (c 7), zn_A (c 8), zn_A (c 9), zn_A (c 10), a_active, a_last, a_logs, a_logSize, a_enabled, a_taken, a_exited, a_by, a_before, a_here, a_next)) : wpY_setField post (nI ms, nI mt, nI ev, nI mx, nI 0, nI (zs_n c), nI (zs_q c), g_found, zn_A (c 0), zn_A (c 1), zn_A (c 2), zn_A (c 3), zn_A (c 4), zn_A (c 5), zn_A (c 6), zn_A (c 7), zn_A (c 8), zn_A (c 9), zn_A (c 10), a_active, a_last, a_logs, a_logSize, a_enabled, a_taken, a_exited, a_by, a_before, a_here, a_next) 5 v2 v3 := by
  have hn := zs_Gn hG
  refine br_t rfl ?_
  rcases pk_ix v2 (n := zs_q c) (by omega) with h | h | ⟨j, hj, rfl⟩
  · exact zr_by5 (ph := 0) hn.2.2.1 (Or.inl h) (br_f zr_n3 hp)
  · exact zr_by5 (ph := 0) hn.2.2.1 (Or.inr h) (br_f zr_n3 hp)
  · exact zr_gy5 (ph := 0) hn.2.2.1 hj (br_t (zr_pos3 (zs_Gb hG 5 j)) (br_f (by decide) (br_f (by decide) (br_f (by decide) (br_f (by decide) (br_f (by decide) hp))))))
theorem zr_no6 {post : Int32 → SY → Prop} (hG : zs_G c ev) (v2 v3 : Int32) (hp : post (-3) (nI ms, nI mt, nI ev, nI mx, nI 0, nI (zs_n c), nI (zs_q c), g_found, zn_A (c 0), zn_A (c 1), zn_A (c 2), zn_A (c 3), zn_A (c 4), zn_A (c 5), zn_A (c 6), zn_A (c 7), zn_A (c 8), zn_A (c 9), zn_A (c 10), a_active, a_last, a_logs, a_logSize, a_enabled, a_taken, a_exited, a_by, a_before, a_here, a_next)) : wpY_setField post (nI ms, nI mt, nI ev, nI mx, nI 0, nI (zs_n c), nI (zs_q c), g_found, zn_A (c 0), zn_A (c 1), zn_A (c 2), zn_A (c 3), zn_A (c 4), zn_A (c 5), zn_A (c 6), zn_A (c 7), zn_A (c 8), zn_A (c 9), zn_A (c 10), a_active, a_last, a_logs, a_logSize, a_enabled, a_taken, a_exited, a_by, a_before, a_here, a_next) 6 v2 v3 := by
  have hn := zs_Gn hG
  refine br_t rfl ?_
  rcases pk_ix v2 (n := zs_q c) (by omega) with h | h | ⟨j, hj, rfl⟩
  · exact zr_by6 (ph := 0) hn.2.2.1 (Or.inl h) (br_f zr_n3 hp)
  · exact zr_by6 (ph := 0) hn.2.2.1 (Or.inr h) (br_f zr_n3 hp)
  · exact zr_gy6 (ph := 0) hn.2.2.1 hj (br_t (zr_pos3 (zs_Gb hG 6 j)) (br_f (by decide) (br_f (by decide) (br_f (by decide) (br_f (by decide) (br_f (by decide) hp))))))
theorem zr_no7 {post : Int32 → SY → Prop} (hG : zs_G c ev) (v2 v3 : Int32) (hp : post (-3) (nI ms, nI mt, nI ev, nI mx, nI 0, nI (zs_n c), nI (zs_q c), g_found, zn_A (c 0), zn_A (c 1), zn_A (c 2), zn_A (c 3), zn_A (c 4), zn_A (c 5), zn_A (c 6), zn_A (c 7), zn_A (c 8), zn_A (c 9), zn_A (c 10), a_active, a_last, a_logs, a_logSize, a_enabled, a_taken, a_exited, a_by, a_before, a_here, a_next)) : wpY_setField post (nI ms, nI mt, nI ev, nI mx, nI 0, nI (zs_n c), nI (zs_q c), g_found, zn_A (c 0), zn_A (c 1), zn_A (c 2), zn_A (c 3), zn_A (c 4), zn_A (c 5), zn_A (c 6), zn_A (c 7), zn_A (c 8), zn_A (c 9), zn_A (c 10), a_active, a_last, a_logs, a_logSize, a_enabled, a_taken, a_exited, a_by, a_before, a_here, a_next) 7 v2 v3 := by
  have hn := zs_Gn hG
  refine br_t rfl ?_
  rcases pk_ix v2 (n := zs_q c) (by omega) with h | h | ⟨j, hj, rfl⟩
  · exact zr_by7 (ph := 0) hn.2.2.1 (Or.inl h) (br_f zr_n3 hp)
  · exact zr_by7 (ph := 0) hn.2.2.1 (Or.inr h) (br_f zr_n3 hp)
  · exact zr_gy7 (ph := 0) hn.2.2.1 hj (br_t (zr_pos3 (zs_Gb hG 7 j)) (br_f (by decide) (br_f (by decide) (br_f (by decide) (br_f (by decide) (br_f (by decide) hp))))))
theorem zr_no8 {post : Int32 → SY → Prop} (hG : zs_G c ev) (v2 v3 : Int32) (hp : post (-3) (nI ms, nI mt, nI ev, nI mx, nI 0, nI (zs_n c), nI (zs_q c), g_found, zn_A (c 0), zn_A (c 1), zn_A (c 2), zn_A (c 3), zn_A (c 4), zn_A (c 5), zn_A (c 6), zn_A (c 7), zn_A (c 8), zn_A (c 9), zn_A (c 10), a_active, a_last, a_logs, a_logSize, a_enabled, a_taken, a_exited, a_by, a_before, a_here, a_next)) : wpY_setField post (nI ms, nI mt, nI ev, nI mx, nI 0, nI (zs_n c), nI (zs_q c), g_found, zn_A (c 0), zn_A (c 1), zn_A (c 2), zn_A (c 3), zn_A (c 4), zn_A (c 5), zn_A (c 6), zn_A (c 7), zn_A (c 8), zn_A (c 9), zn_A (c 10), a_active, a_last, a_logs, a_logSize, a_enabled, a_taken, a_exited, a_by, a_before, a_here, a_next) 8 v2 v3 := by
  have hn := zs_Gn hG
  refine br_t rfl ?_
  rcases pk_ix v2 (n := zs_q c) (by omega) with h | h | ⟨j, hj, rfl⟩
  · exact zr_by8 (ph := 0) hn.2.2.1 (Or.inl h) (br_f zr_n3 hp)
  · exact zr_by8 (ph := 0) hn.2.2.1 (Or.inr h) (br_f zr_n3 hp)
  · exact zr_gy8 (ph := 0) hn.2.2.1 hj (br_t (zr_pos3 (zs_Gb hG 8 j)) (br_f (by decide) (br_f (by decide) (br_f (by decide) (br_f (by decide) (br_f (by decide) hp))))))
theorem zr_nb2 {post : Int32 → SY → Prop} (hG : zs_G c ev) (v2 v3 : Int32) (hv : v2 < 0 ∨ nI (zs_n c) ≤ v2) (hp : post (-3) (nI ms, nI mt, nI ev, nI mx, nI 0, nI (zs_n c), nI (zs_q c), g_found, zn_A (c 0), zn_A (c 1), zn_A (c 2), zn_A (c 3), zn_A (c 4), zn_A (c 5), zn_A (c 6), zn_A (c 7), zn_A (c 8), zn_A (c 9), zn_A (c 10), a_active, a_last, a_logs, a_logSize, a_enabled, a_taken, a_exited, a_by, a_before, a_here, a_next)) : wpY_setField post (nI ms, nI mt, nI ev, nI mx, nI 0, nI (zs_n c), nI (zs_q c), g_found, zn_A (c 0), zn_A (c 1), zn_A (c 2), zn_A (c 3), zn_A (c 4), zn_A (c 5), zn_A (c 6), zn_A (c 7), zn_A (c 8), zn_A (c 9), zn_A (c 10), a_active, a_last, a_logs, a_logSize, a_enabled, a_taken, a_exited, a_by, a_before, a_here, a_next) 2 v2 v3 := by
  have hn := zs_Gn hG
  exact br_t rfl (zr_by2 (ph := 0) hn.2.1 hv (br_f zr_n3 hp))
theorem zr_nb3 {post : Int32 → SY → Prop} (hG : zs_G c ev) (v2 v3 : Int32) (hv : v2 < 0 ∨ nI (zs_n c) ≤ v2) (hp : post (-3) (nI ms, nI mt, nI ev, nI mx, nI 0, nI (zs_n c), nI (zs_q c), g_found, zn_A (c 0), zn_A (c 1), zn_A (c 2), zn_A (c 3), zn_A (c 4), zn_A (c 5), zn_A (c 6), zn_A (c 7), zn_A (c 8), zn_A (c 9), zn_A (c 10), a_active, a_last, a_logs, a_logSize, a_enabled, a_taken, a_exited, a_by, a_before, a_here, a_next)) : wpY_setField post (nI ms, nI mt, nI ev, nI mx, nI 0, nI (zs_n c), nI (zs_q c), g_found, zn_A (c 0), zn_A (c 1), zn_A (c 2), zn_A (c 3), zn_A (c 4), zn_A (c 5), zn_A (c 6), zn_A (c 7), zn_A (c 8), zn_A (c 9), zn_A (c 10), a_active, a_last, a_logs, a_logSize, a_enabled, a_taken, a_exited, a_by, a_before, a_here, a_next) 3 v2 v3 := by
  have hn := zs_Gn hG
  exact br_t rfl (zr_by3 (ph := 0) hn.2.1 hv (br_f zr_n3 hp))
theorem zr_nb4 {post : Int32 → SY → Prop} (hG : zs_G c ev) (v2 v3 : Int32) (hv : v2 < 0 ∨ nI (zs_n c) ≤ v2) (hp : post (-3) (nI ms, nI mt, nI ev, nI mx, nI 0, nI (zs_n c), nI (zs_q c), g_found, zn_A (c 0), zn_A (c 1), zn_A (c 2), zn_A (c 3), zn_A (c 4), zn_A (c 5), zn_A (c 6), zn_A (c 7), zn_A (c 8), zn_A (c 9), zn_A (c 10), a_active, a_last, a_logs, a_logSize, a_enabled, a_taken, a_exited, a_by, a_before, a_here, a_next)) : wpY_setField post (nI ms, nI mt, nI ev, nI mx, nI 0, nI (zs_n c), nI (zs_q c), g_found, zn_A (c 0), zn_A (c 1), zn_A (c 2), zn_A (c 3), zn_A (c 4), zn_A (c 5), zn_A (c 6), zn_A (c 7), zn_A (c 8), zn_A (c 9), zn_A (c 10), a_active, a_last, a_logs, a_logSize, a_enabled, a_taken, a_exited, a_by, a_before, a_here, a_next) 4 v2 v3 := by
  have hn := zs_Gn hG
  exact br_t rfl (zr_by4 (ph := 0) hn.2.1 hv (br_f zr_n3 hp))
theorem zr_nb9 {post : Int32 → SY → Prop} (hG : zs_G c ev) (v2 v3 : Int32) (hv : v2 < 0 ∨ nI (zs_q c) ≤ v2) (hp : post (-3) (nI ms, nI mt, nI ev, nI mx, nI 0, nI (zs_n c), nI (zs_q c), g_found, zn_A (c 0), zn_A (c 1), zn_A (c 2), zn_A (c 3), zn_A (c 4), zn_A (c 5), zn_A (c 6), zn_A (c 7), zn_A (c 8), zn_A (c 9), zn_A (c 10), a_active, a_last, a_logs, a_logSize, a_enabled, a_taken, a_exited, a_by, a_before, a_here, a_next)) : wpY_setField post (nI ms, nI mt, nI ev, nI mx, nI 0, nI (zs_n c), nI (zs_q c), g_found, zn_A (c 0), zn_A (c 1), zn_A (c 2), zn_A (c 3), zn_A (c 4), zn_A (c 5), zn_A (c 6), zn_A (c 7), zn_A (c 8), zn_A (c 9), zn_A (c 10), a_active, a_last, a_logs, a_logSize, a_enabled, a_taken, a_exited, a_by, a_before, a_here, a_next) 9 v2 v3 := by
  have hn := zs_Gn hG
  exact br_t rfl (zr_by9 (ph := 0) hn.2.2.1 hv (br_f zr_n3 hp))
theorem zr_nb10 {post : Int32 → SY → Prop} (hG : zs_G c ev) (v2 v3 : Int32) (hv : v2 < 0 ∨ nI (zs_q c) ≤ v2) (hp : post (-3) (nI ms, nI mt, nI ev, nI mx, nI 0, nI (zs_n c), nI (zs_q c), g_found, zn_A (c 0), zn_A (c 1), zn_A (c 2), zn_A (c 3), zn_A (c 4), zn_A (c 5), zn_A (c 6), zn_A (c 7), zn_A (c 8), zn_A (c 9), zn_A (c 10), a_active, a_last, a_logs, a_logSize, a_enabled, a_taken, a_exited, a_by, a_before, a_here, a_next)) : wpY_setField post (nI ms, nI mt, nI ev, nI mx, nI 0, nI (zs_n c), nI (zs_q c), g_found, zn_A (c 0), zn_A (c 1), zn_A (c 2), zn_A (c 3), zn_A (c 4), zn_A (c 5), zn_A (c 6), zn_A (c 7), zn_A (c 8), zn_A (c 9), zn_A (c 10), a_active, a_last, a_logs, a_logSize, a_enabled, a_taken, a_exited, a_by, a_before, a_here, a_next) 10 v2 v3 := by
  have hn := zs_Gn hG
  exact br_t rfl (zr_by10 (ph := 0) hn.2.2.1 hv (br_f zr_n3 hp))
end ZVG
end
section
section ZVH
/-! the call setField -/
variable {c d : Nat → Nat → Nat} {ms mt ev mx : Nat}
variable {f_stepAfter f_situation0 : Int64} {f_stepTaken f_stepExited f_stepEntered f_place1 f_found : Int32} {a_log a_logLength a_stepsTo a_nextPlace a_takenAt a_exitedAt a_enteredAt : Nat → Int32} {a_situations : Nat → Int64}
variable {g_found : Int32} {a_active a_last a_logs a_logSize a_enabled a_taken a_exited a_by a_before a_here a_next : Nat → Int32}
theorem zr_set0 (hC : zr_C c d ms mt ev mx) (hL : zr_L a_logLength a_log a_logSize a_logs) (k : Nat) (v2 v3 : Int32) : wpX_setField (fun r u' => wpY_setField (fun r' v' => r' = r ∧ i_Rel k u' v') (nI ms, nI mt, nI ev, nI mx, nI 0, nI (zs_n c), nI (zs_q c), g_found, zn_A (c 0), zn_A (c 1), zn_A (c 2), zn_A (c 3), zn_A (c 4), zn_A (c 5), zn_A (c 6), zn_A (c 7), zn_A (c 8), zn_A (c 9), zn_A (c 10), a_active, a_last, a_logs, a_logSize, a_enabled, a_taken, a_exited, a_by, a_before, a_here, a_next) 0 v2 v3) (nI ms, nI mt, nI ev, nI mx, zr_s 0, zr_b 0, nI (zs_n c), nI (d 6 0), nI (zs_q c), f_stepAfter, f_stepTaken, f_stepExited, f_stepEntered, f_situation0, f_place1, f_found, zn_A (c 0), zn_A (c 1), zn_A (c 2), zn_A (c 3), zn_A (c 4), zn_A (d 0), zn_A (d 1), zn_A (d 2), zn_A (d 3), zn_A (c 5), zn_A (c 6), zn_A (c 7), zn_A (c 8), zn_A (c 9), zn_A (c 10), zn_A (d 4), zn_A (d 5), a_log, a_logLength, a_situations, a_stepsTo, a_nextPlace, a_takenAt, a_exitedAt, a_enteredAt) 0 v2 v3 := by
  have hR : i_Rel k (nI ms, nI mt, nI ev, nI mx, zr_s 0, zr_b 0, nI (zs_n c), nI (d 6 0), nI (zs_q c), f_stepAfter, f_stepTaken, f_stepExited, f_stepEntered, f_situation0, f_place1, f_found, zn_A (c 0), zn_A (c 1), zn_A (c 2), zn_A (c 3), zn_A (c 4), zn_A (d 0), zn_A (d 1), zn_A (d 2), zn_A (d 3), zn_A (c 5), zn_A (c 6), zn_A (c 7), zn_A (c 8), zn_A (c 9), zn_A (c 10), zn_A (d 4), zn_A (d 5), a_log, a_logLength, a_situations, a_stepsTo, a_nextPlace, a_takenAt, a_exitedAt, a_enteredAt) (nI ms, nI mt, nI ev, nI mx, nI 0, nI (zs_n c), nI (zs_q c), g_found, zn_A (c 0), zn_A (c 1), zn_A (c 2), zn_A (c 3), zn_A (c 4), zn_A (c 5), zn_A (c 6), zn_A (c 7), zn_A (c 8), zn_A (c 9), zn_A (c 10), a_active, a_last, a_logs, a_logSize, a_enabled, a_taken, a_exited, a_by, a_before, a_here, a_next) := zr_in (ph := 0) hC hL zr_P0
  have hG := hC.1
  have hn := zs_Gn hG
  exact br_t rfl (br_t (by decide) (br_t rfl (zr_no0 hG v2 v3 ⟨rfl, hR⟩)))
theorem zr_set1 (hC : zr_C c d ms mt ev mx) (hL : zr_L a_logLength a_log a_logSize a_logs) (k : Nat) (v2 v3 : Int32) : wpX_setField (fun r u' => wpY_setField (fun r' v' => r' = r ∧ i_Rel k u' v') (nI ms, nI mt, nI ev, nI mx, nI 0, nI (zs_n c), nI (zs_q c), g_found, zn_A (c 0), zn_A (c 1), zn_A (c 2), zn_A (c 3), zn_A (c 4), zn_A (c 5), zn_A (c 6), zn_A (c 7), zn_A (c 8), zn_A (c 9), zn_A (c 10), a_active, a_last, a_logs, a_logSize, a_enabled, a_taken, a_exited, a_by, a_before, a_here, a_next) 1 v2 v3) (nI ms, nI mt, nI ev, nI mx, zr_s 0, zr_b 0, nI (zs_n c), nI (d 6 0), nI (zs_q c), f_stepAfter, f_stepTaken, f_stepExited, f_stepEntered, f_situation0, f_place1, f_found, zn_A (c 0), zn_A (c 1), zn_A (c 2), zn_A (c 3), zn_A (c 4), zn_A (d 0), zn_A (d 1), zn_A (d 2), zn_A (d 3), zn_A (c 5), zn_A (c 6), zn_A (c 7), zn_A (c 8), zn_A (c 9), zn_A (c 10), zn_A (d 4), zn_A (d 5), a_log, a_logLength, a_situations, a_stepsTo, a_nextPlace, a_takenAt, a_exitedAt, a_enteredAt) 1 v2 v3 := by
  have hR : i_Rel k (nI ms, nI mt, nI ev, nI mx, zr_s 0, zr_b 0, nI (zs_n c), nI (d 6 0), nI (zs_q c), f_stepAfter, f_stepTaken, f_stepExited, f_stepEntered, f_situation0, f_place1, f_found, zn_A (c 0), zn_A (c 1), zn_A (c 2), zn_A (c 3), zn_A (c 4), zn_A (d 0), zn_A (d 1), zn_A (d 2), zn_A (d 3), zn_A (c 5), zn_A (c 6), zn_A (c 7), zn_A (c 8), zn_A (c 9), zn_A (c 10), zn_A (d 4), zn_A (d 5), a_log, a_logLength, a_situations, a_stepsTo, a_nextPlace, a_takenAt, a_exitedAt, a_enteredAt) (nI ms, nI mt, nI ev, nI mx, nI 0, nI (zs_n c), nI (zs_q c), g_found, zn_A (c 0), zn_A (c 1), zn_A (c 2), zn_A (c 3), zn_A (c 4), zn_A (c 5), zn_A (c 6), zn_A (c 7), zn_A (c 8), zn_A (c 9), zn_A (c 10), a_active, a_last, a_logs, a_logSize, a_enabled, a_taken, a_exited, a_by, a_before, a_here, a_next) := zr_in (ph := 0) hC hL zr_P0
  have hG := hC.1
  have hn := zs_Gn hG
  exact br_t rfl (br_t (by decide) (br_t rfl (zr_no1 hG v2 v3 ⟨rfl, hR⟩)))
theorem zr_set5 (hC : zr_C c d ms mt ev mx) (hL : zr_L a_logLength a_log a_logSize a_logs) (k : Nat) (v2 v3 : Int32) : wpX_setField (fun r u' => wpY_setField (fun r' v' => r' = r ∧ i_Rel k u' v') (nI ms, nI mt, nI ev, nI mx, nI 0, nI (zs_n c), nI (zs_q c), g_found, zn_A (c 0), zn_A (c 1), zn_A (c 2), zn_A (c 3), zn_A (c 4), zn_A (c 5), zn_A (c 6), zn_A (c 7), zn_A (c 8), zn_A (c 9), zn_A (c 10), a_active, a_last, a_logs, a_logSize, a_enabled, a_taken, a_exited, a_by, a_before, a_here, a_next) 5 v2 v3) (nI ms, nI mt, nI ev, nI mx, zr_s 0, zr_b 0, nI (zs_n c), nI (d 6 0), nI (zs_q c), f_stepAfter, f_stepTaken, f_stepExited, f_stepEntered, f_situation0, f_place1, f_found, zn_A (c 0), zn_A (c 1), zn_A (c 2), zn_A (c 3), zn_A (c 4), zn_A (d 0), zn_A (d 1), zn_A (d 2), zn_A (d 3), zn_A (c 5), zn_A (c 6), zn_A (c 7), zn_A (c 8), zn_A (c 9), zn_A (c 10), zn_A (d 4), zn_A (d 5), a_log, a_logLength, a_situations, a_stepsTo, a_nextPlace, a_takenAt, a_exitedAt, a_enteredAt) 5 v2 v3 := by
  have hR : i_Rel k (nI ms, nI mt, nI ev, nI mx, zr_s 0, zr_b 0, nI (zs_n c), nI (d 6 0), nI (zs_q c), f_stepAfter, f_stepTaken, f_stepExited, f_stepEntered, f_situation0, f_place1, f_found, zn_A (c 0), zn_A (c 1), zn_A (c 2), zn_A (c 3), zn_A (c 4), zn_A (d 0), zn_A (d 1), zn_A (d 2), zn_A (d 3), zn_A (c 5), zn_A (c 6), zn_A (c 7), zn_A (c 8), zn_A (c 9), zn_A (c 10), zn_A (d 4), zn_A (d 5), a_log, a_logLength, a_situations, a_stepsTo, a_nextPlace, a_takenAt, a_exitedAt, a_enteredAt) (nI ms, nI mt, nI ev, nI mx, nI 0, nI (zs_n c), nI (zs_q c), g_found, zn_A (c 0), zn_A (c 1), zn_A (c 2), zn_A (c 3), zn_A (c 4), zn_A (c 5), zn_A (c 6), zn_A (c 7), zn_A (c 8), zn_A (c 9), zn_A (c 10), a_active, a_last, a_logs, a_logSize, a_enabled, a_taken, a_exited, a_by, a_before, a_here, a_next) := zr_in (ph := 0) hC hL zr_P0
  have hG := hC.1
  have hn := zs_Gn hG
  exact br_t rfl (br_f (by decide) (br_f (by decide) (br_f (by decide) (br_f (by decide) (br_f (by decide) (br_t rfl (br_t rfl (zr_no5 hG v2 v3 ⟨rfl, hR⟩))))))))
theorem zr_set6 (hC : zr_C c d ms mt ev mx) (hL : zr_L a_logLength a_log a_logSize a_logs) (k : Nat) (v2 v3 : Int32) : wpX_setField (fun r u' => wpY_setField (fun r' v' => r' = r ∧ i_Rel k u' v') (nI ms, nI mt, nI ev, nI mx, nI 0, nI (zs_n c), nI (zs_q c), g_found, zn_A (c 0), zn_A (c 1), zn_A (c 2), zn_A (c 3), zn_A (c 4), zn_A (c 5), zn_A (c 6), zn_A (c 7), zn_A (c 8), zn_A (c 9), zn_A (c 10), a_active, a_last, a_logs, a_logSize, a_enabled, a_taken, a_exited, a_by, a_before, a_here, a_next) 6 v2 v3) (nI ms, nI mt, nI ev, nI mx, zr_s 0, zr_b 0, nI (zs_n c), nI (d 6 0), nI (zs_q c), f_stepAfter, f_stepTaken, f_stepExited, f_stepEntered, f_situation0, f_place1, f_found, zn_A (c 0), zn_A (c 1), zn_A (c 2), zn_A (c 3), zn_A (c 4), zn_A (d 0), zn_A (d 1), zn_A (d 2), zn_A (d 3), zn_A (c 5), zn_A (c 6), zn_A (c 7), zn_A (c 8), zn_A (c 9), zn_A (c 10), zn_A (d 4), zn_A (d 5), a_log, a_logLength, a_situations, a_stepsTo, a_nextPlace, a_takenAt, a_exitedAt, a_enteredAt) 6 v2 v3 := by
  have hR : i_Rel k (nI ms, nI mt, nI ev, nI mx, zr_s 0, zr_b 0, nI (zs_n c), nI (d 6 0), nI (zs_q c), f_stepAfter, f_stepTaken, f_stepExited, f_stepEntered, f_situation0, f_place1, f_found, zn_A (c 0), zn_A (c 1), zn_A (c 2), zn_A (c 3), zn_A (c 4), zn_A (d 0), zn_A (d 1), zn_A (d 2), zn_A (d 3), zn_A (c 5), zn_A (c 6), zn_A (c 7), zn_A (c 8), zn_A (c 9), zn_A (c 10), zn_A (d 4), zn_A (d 5), a_log, a_logLength, a_situations, a_stepsTo, a_nextPlace, a_takenAt, a_exitedAt, a_enteredAt) (nI ms, nI mt, nI ev, nI mx, nI 0, nI (zs_n c), nI (zs_q c), g_found, zn_A (c 0), zn_A (c 1), zn_A (c 2), zn_A (c 3), zn_A (c 4), zn_A (c 5), zn_A (c 6), zn_A (c 7), zn_A (c 8), zn_A (c 9), zn_A (c 10), a_active, a_last, a_logs, a_logSize, a_enabled, a_taken, a_exited, a_by, a_before, a_here, a_next) := zr_in (ph := 0) hC hL zr_P0
  have hG := hC.1
  have hn := zs_Gn hG
  exact br_t rfl (br_f (by decide) (br_f (by decide) (br_f (by decide) (br_f (by decide) (br_f (by decide) (br_f (by decide) (br_t rfl (br_t rfl (zr_no6 hG v2 v3 ⟨rfl, hR⟩)))))))))
theorem zr_set7 (hC : zr_C c d ms mt ev mx) (hL : zr_L a_logLength a_log a_logSize a_logs) (k : Nat) (v2 v3 : Int32) : wpX_setField (fun r u' => wpY_setField (fun r' v' => r' = r ∧ i_Rel k u' v') (nI ms, nI mt, nI ev, nI mx, nI 0, nI (zs_n c), nI (zs_q c), g_found, zn_A (c 0), zn_A (c 1), zn_A (c 2), zn_A (c 3), zn_A (c 4), zn_A (c 5), zn_A (c 6), zn_A (c 7), zn_A (c 8), zn_A (c 9), zn_A (c 10), a_active, a_last, a_logs, a_logSize, a_enabled, a_taken, a_exited, a_by, a_before, a_here, a_next) 7 v2 v3) (nI ms, nI mt, nI ev, nI mx, zr_s 0, zr_b 0, nI (zs_n c), nI (d 6 0), nI (zs_q c), f_stepAfter, f_stepTaken, f_stepExited, f_stepEntered, f_situation0, f_place1, f_found, zn_A (c 0), zn_A (c 1), zn_A (c 2), zn_A (c 3), zn_A (c 4), zn_A (d 0), zn_A (d 1), zn_A (d 2), zn_A (d 3), zn_A (c 5), zn_A (c 6), zn_A (c 7), zn_A (c 8), zn_A (c 9), zn_A (c 10), zn_A (d 4), zn_A (d 5), a_log, a_logLength, a_situations, a_stepsTo, a_nextPlace, a_takenAt, a_exitedAt, a_enteredAt) 7 v2 v3 := by
  have hR : i_Rel k (nI ms, nI mt, nI ev, nI mx, zr_s 0, zr_b 0, nI (zs_n c), nI (d 6 0), nI (zs_q c), f_stepAfter, f_stepTaken, f_stepExited, f_stepEntered, f_situation0, f_place1, f_found, zn_A (c 0), zn_A (c 1), zn_A (c 2), zn_A (c 3), zn_A (c 4), zn_A (d 0), zn_A (d 1), zn_A (d 2), zn_A (d 3), zn_A (c 5), zn_A (c 6), zn_A (c 7), zn_A (c 8), zn_A (c 9), zn_A (c 10), zn_A (d 4), zn_A (d 5), a_log, a_logLength, a_situations, a_stepsTo, a_nextPlace, a_takenAt, a_exitedAt, a_enteredAt) (nI ms, nI mt, nI ev, nI mx, nI 0, nI (zs_n c), nI (zs_q c), g_found, zn_A (c 0), zn_A (c 1), zn_A (c 2), zn_A (c 3), zn_A (c 4), zn_A (c 5), zn_A (c 6), zn_A (c 7), zn_A (c 8), zn_A (c 9), zn_A (c 10), a_active, a_last, a_logs, a_logSize, a_enabled, a_taken, a_exited, a_by, a_before, a_here, a_next) := zr_in (ph := 0) hC hL zr_P0
  have hG := hC.1
  have hn := zs_Gn hG
  exact br_t rfl (br_f (by decide) (br_f (by decide) (br_f (by decide) (br_f (by decide) (br_f (by decide) (br_f (by decide) (br_f (by decide) (br_t rfl (br_t rfl (zr_no7 hG v2 v3 ⟨rfl, hR⟩))))))))))
theorem zr_set8 (hC : zr_C c d ms mt ev mx) (hL : zr_L a_logLength a_log a_logSize a_logs) (k : Nat) (v2 v3 : Int32) : wpX_setField (fun r u' => wpY_setField (fun r' v' => r' = r ∧ i_Rel k u' v') (nI ms, nI mt, nI ev, nI mx, nI 0, nI (zs_n c), nI (zs_q c), g_found, zn_A (c 0), zn_A (c 1), zn_A (c 2), zn_A (c 3), zn_A (c 4), zn_A (c 5), zn_A (c 6), zn_A (c 7), zn_A (c 8), zn_A (c 9), zn_A (c 10), a_active, a_last, a_logs, a_logSize, a_enabled, a_taken, a_exited, a_by, a_before, a_here, a_next) 8 v2 v3) (nI ms, nI mt, nI ev, nI mx, zr_s 0, zr_b 0, nI (zs_n c), nI (d 6 0), nI (zs_q c), f_stepAfter, f_stepTaken, f_stepExited, f_stepEntered, f_situation0, f_place1, f_found, zn_A (c 0), zn_A (c 1), zn_A (c 2), zn_A (c 3), zn_A (c 4), zn_A (d 0), zn_A (d 1), zn_A (d 2), zn_A (d 3), zn_A (c 5), zn_A (c 6), zn_A (c 7), zn_A (c 8), zn_A (c 9), zn_A (c 10), zn_A (d 4), zn_A (d 5), a_log, a_logLength, a_situations, a_stepsTo, a_nextPlace, a_takenAt, a_exitedAt, a_enteredAt) 8 v2 v3 := by
  have hR : i_Rel k (nI ms, nI mt, nI ev, nI mx, zr_s 0, zr_b 0, nI (zs_n c), nI (d 6 0), nI (zs_q c), f_stepAfter, f_stepTaken, f_stepExited, f_stepEntered, f_situation0, f_place1, f_found, zn_A (c 0), zn_A (c 1), zn_A (c 2), zn_A (c 3), zn_A (c 4), zn_A (d 0), zn_A (d 1), zn_A (d 2), zn_A (d 3), zn_A (c 5), zn_A (c 6), zn_A (c 7), zn_A (c 8), zn_A (c 9), zn_A (c 10), zn_A (d 4), zn_A (d 5), a_log, a_logLength, a_situations, a_stepsTo, a_nextPlace, a_takenAt, a_exitedAt, a_enteredAt) (nI ms, nI mt, nI ev, nI mx, nI 0, nI (zs_n c), nI (zs_q c), g_found, zn_A (c 0), zn_A (c 1), zn_A (c 2), zn_A (c 3), zn_A (c 4), zn_A (c 5), zn_A (c 6), zn_A (c 7), zn_A (c 8), zn_A (c 9), zn_A (c 10), a_active, a_last, a_logs, a_logSize, a_enabled, a_taken, a_exited, a_by, a_before, a_here, a_next) := zr_in (ph := 0) hC hL zr_P0
  have hG := hC.1
  have hn := zs_Gn hG
  exact br_t rfl (br_f (by decide) (br_f (by decide) (br_f (by decide) (br_f (by decide) (br_f (by decide) (br_f (by decide) (br_f (by decide) (br_f (by decide) (br_t rfl (br_t rfl (zr_no8 hG v2 v3 ⟨rfl, hR⟩)))))))))))
theorem zr_set2 (hC : zr_C c d ms mt ev mx) (hL : zr_L a_logLength a_log a_logSize a_logs) (k : Nat) (v2 v3 : Int32) : wpX_setField (fun r u' => wpY_setField (fun r' v' => r' = r ∧ i_Rel k u' v') (nI ms, nI mt, nI ev, nI mx, nI 0, nI (zs_n c), nI (zs_q c), g_found, zn_A (c 0), zn_A (c 1), zn_A (c 2), zn_A (c 3), zn_A (c 4), zn_A (c 5), zn_A (c 6), zn_A (c 7), zn_A (c 8), zn_A (c 9), zn_A (c 10), a_active, a_last, a_logs, a_logSize, a_enabled, a_taken, a_exited, a_by, a_before, a_here, a_next) 2 v2 v3) (nI ms, nI mt, nI ev, nI mx, zr_s 0, zr_b 0, nI (zs_n c), nI (d 6 0), nI (zs_q c), f_stepAfter, f_stepTaken, f_stepExited, f_stepEntered, f_situation0, f_place1, f_found, zn_A (c 0), zn_A (c 1), zn_A (c 2), zn_A (c 3), zn_A (c 4), zn_A (d 0), zn_A (d 1), zn_A (d 2), zn_A (d 3), zn_A (c 5), zn_A (c 6), zn_A (c 7), zn_A (c 8), zn_A (c 9), zn_A (c 10), zn_A (d 4), zn_A (d 5), a_log, a_logLength, a_situations, a_stepsTo, a_nextPlace, a_takenAt, a_exitedAt, a_enteredAt) 2 v2 v3 := by
  have hR : i_Rel k (nI ms, nI mt, nI ev, nI mx, zr_s 0, zr_b 0, nI (zs_n c), nI (d 6 0), nI (zs_q c), f_stepAfter, f_stepTaken, f_stepExited, f_stepEntered, f_situation0, f_place1, f_found, zn_A (c 0), zn_A (c 1), zn_A (c 2), zn_A (c 3), zn_A (c 4), zn_A (d 0), zn_A (d 1), zn_A (d 2), zn_A (d 3), zn_A (c 5), zn_A (c 6), zn_A (c 7), zn_A (c 8), zn_A (c 9), zn_A (c 10), zn_A (d 4), zn_A (d 5), a_log, a_logLength, a_situations, a_stepsTo, a_nextPlace, a_takenAt, a_exitedAt, a_enteredAt) (nI ms, nI mt, nI ev, nI mx, nI 0, nI (zs_n c), nI (zs_q c), g_found, zn_A (c 0), zn_A (c 1), zn_A (c 2), zn_A (c 3), zn_A (c 4), zn_A (c 5), zn_A (c 6), zn_A (c 7), zn_A (c 8), zn_A (c 9), zn_A (c 10), a_active, a_last, a_logs, a_logSize, a_enabled, a_taken, a_exited, a_by, a_before, a_here, a_next) := zr_in (ph := 0) hC hL zr_P0
  have hG := hC.1
  have hn := zs_Gn hG
  refine br_t rfl (br_f (by decide) (br_f (by decide) (br_t rfl ?_)))
  rcases pk_ix v2 (n := zs_n c) (by omega) with h | h | ⟨j, hj, rfl⟩
  · exact zr_isn (ph := 0) h (br_t rfl (br_t rfl (zr_nb2 hG v2 v3 (Or.inl h) ⟨rfl, hR⟩)))
  · exact zr_isb (ph := 0) hn.2.1 h (br_t rfl (br_t rfl (zr_nb2 hG v2 v3 (Or.inr h) ⟨rfl, hR⟩)))
  · have vin : vp_in (nI j) 12 := vp_in_nI (by omega) (by decide)
    have pos := zr_pos3 (zs_Gb hG 2 j)
    have hk' : zn_A (c 1) (nI j).toNatClampNeg = 0 ↔ c 1 j = 0 := zn_req (v := 0) (by omega) (zs_Gb hG 1 j) (by decide)
    refine zr_isy (ph := 0) hn.2.1 hj (br_f (by decide) (And.intro vin (ek_if hk' (fun hk => ?_) (fun hk => ?_))))
    · rcases pk_ix v3 (n := zs_n c) (by omega) with h | h | ⟨x, hx, rfl⟩
      · exact br_t (zr_neg1 h) (br_t rfl (br_t rfl (zr_gy2 (ph := 0) hn.2.1 hj (br_t pos (br_t rfl (And.intro vin (br_t (hk'.mpr hk) (br_t (zr_neg1 h) ⟨rfl, hR⟩))))))))
      · have b1 := zr_big1 (by omega) (by omega) h
        exact br_f b1 (br_t h (br_t rfl (br_t rfl (zr_gy2 (ph := 0) hn.2.1 hj (br_t pos (br_t rfl (And.intro vin (br_t (hk'.mpr hk) (br_f b1 (br_t h ⟨rfl, hR⟩))))))))))
      · have vix : vp_in (nI x) 12 := vp_in_nI (by omega) (by decide)
        have c2 := nI_ge hx (show zs_n c < 2 ^ 31 by omega)
        have hp' : zn_A (c 0) (nI x).toNatClampNeg = nI j ↔ c 0 x = j := zn_req (by omega) (zs_Gb hG 0 x) (by omega)
        refine pk_lt x 1 (fun h0 => ?_) (fun h0 => ?_) rfl rfl
        · have b0 : nI x < 1 := nI_lt (b := 1) h0 (by decide)
          exact br_t rfl (br_t rfl (zr_gy2 (ph := 0) hn.2.1 hj (br_t pos (br_t rfl (And.intro vin (br_t (hk'.mpr hk) (br_t b0 ⟨rfl, hR⟩)))))))
        · have b0 : ¬ nI x < 1 := nI_nlt (b := 1) h0 (by omega)
          refine br_f c2 (And.intro vix (ek_if hp' (fun hp => ?_) (fun hp => ?_)))
          · have ev1 : upd (zn_A (c 2)) (nI j).toNatClampNeg (nI x) = zn_A (zn_u (c 2) j x) := by rw [nI_clamp (by omega), zn_upd]
            refine br_f (by decide) (zr_gx2 (ph := 0) hn.2.1 hj (br_f (by decide) (br_f (by decide) (br_t rfl (And.intro vin (nm_r ev1 ?_))))))
            refine br_t rfl (zr_gy2 (ph := 0) hn.2.1 hj (br_t pos (br_t rfl (And.intro vin (br_t (hk'.mpr hk) (br_f b0 (br_f c2 (And.intro vix (br_t (hp'.mpr hp) (And.intro vin (nm_r ev1 ⟨rfl, ?_⟩)))))))))))
            exact zr_in (ph := 0) (c := zn_v c 2 j x) (zr_Cv hC (Or.inl rfl) (by omega) (fun _ => ⟨hj, hk, by omega, hx, hp⟩) (fun h => absurd h (by decide))) hL zr_P0
          · exact br_t rfl (br_t rfl (zr_gy2 (ph := 0) hn.2.1 hj (br_t pos (br_t rfl (And.intro vin (br_t (hk'.mpr hk) (br_f b0 (br_f c2 (And.intro vix (br_f (fun z => hp (hp'.mp z)) ⟨rfl, hR⟩))))))))))
    · exact br_t rfl (br_t rfl (zr_gy2 (ph := 0) hn.2.1 hj (br_t pos (br_t rfl (And.intro vin (br_f (fun z => hk (hk'.mp z)) ⟨rfl, hR⟩))))))
theorem zr_set3 (hC : zr_C c d ms mt ev mx) (hL : zr_L a_logLength a_log a_logSize a_logs) (k : Nat) (v2 v3 : Int32) : wpX_setField (fun r u' => wpY_setField (fun r' v' => r' = r ∧ i_Rel k u' v') (nI ms, nI mt, nI ev, nI mx, nI 0, nI (zs_n c), nI (zs_q c), g_found, zn_A (c 0), zn_A (c 1), zn_A (c 2), zn_A (c 3), zn_A (c 4), zn_A (c 5), zn_A (c 6), zn_A (c 7), zn_A (c 8), zn_A (c 9), zn_A (c 10), a_active, a_last, a_logs, a_logSize, a_enabled, a_taken, a_exited, a_by, a_before, a_here, a_next) 3 v2 v3) (nI ms, nI mt, nI ev, nI mx, zr_s 0, zr_b 0, nI (zs_n c), nI (d 6 0), nI (zs_q c), f_stepAfter, f_stepTaken, f_stepExited, f_stepEntered, f_situation0, f_place1, f_found, zn_A (c 0), zn_A (c 1), zn_A (c 2), zn_A (c 3), zn_A (c 4), zn_A (d 0), zn_A (d 1), zn_A (d 2), zn_A (d 3), zn_A (c 5), zn_A (c 6), zn_A (c 7), zn_A (c 8), zn_A (c 9), zn_A (c 10), zn_A (d 4), zn_A (d 5), a_log, a_logLength, a_situations, a_stepsTo, a_nextPlace, a_takenAt, a_exitedAt, a_enteredAt) 3 v2 v3 := by
  have hR : i_Rel k (nI ms, nI mt, nI ev, nI mx, zr_s 0, zr_b 0, nI (zs_n c), nI (d 6 0), nI (zs_q c), f_stepAfter, f_stepTaken, f_stepExited, f_stepEntered, f_situation0, f_place1, f_found, zn_A (c 0), zn_A (c 1), zn_A (c 2), zn_A (c 3), zn_A (c 4), zn_A (d 0), zn_A (d 1), zn_A (d 2), zn_A (d 3), zn_A (c 5), zn_A (c 6), zn_A (c 7), zn_A (c 8), zn_A (c 9), zn_A (c 10), zn_A (d 4), zn_A (d 5), a_log, a_logLength, a_situations, a_stepsTo, a_nextPlace, a_takenAt, a_exitedAt, a_enteredAt) (nI ms, nI mt, nI ev, nI mx, nI 0, nI (zs_n c), nI (zs_q c), g_found, zn_A (c 0), zn_A (c 1), zn_A (c 2), zn_A (c 3), zn_A (c 4), zn_A (c 5), zn_A (c 6), zn_A (c 7), zn_A (c 8), zn_A (c 9), zn_A (c 10), a_active, a_last, a_logs, a_logSize, a_enabled, a_taken, a_exited, a_by, a_before, a_here, a_next) := zr_in (ph := 0) hC hL zr_P0
  have hG := hC.1
  have hn := zs_Gn hG
  refine br_t rfl (br_f (by decide) (br_f (by decide) (br_f (by decide) (br_t rfl ?_))))
  unfold wX_maySet_98
  rcases pk_ix v2 (n := zs_n c) (by omega) with h | h | ⟨j, hj, rfl⟩
  · exact zr_isn (ph := 0) h (br_t rfl (br_t rfl (zr_nb3 hG v2 v3 (Or.inl h) ⟨rfl, hR⟩)))
  · exact zr_isb (ph := 0) hn.2.1 h (br_t rfl (br_t rfl (zr_nb3 hG v2 v3 (Or.inr h) ⟨rfl, hR⟩)))
  · have vin : vp_in (nI j) 12 := vp_in_nI (by omega) (by decide)
    have pos := zr_pos3 (zs_Gb hG 3 j)
    refine zr_isy (ph := 0) hn.2.1 hj (br_f (by decide) (br_c (fun h0 => ?_) (fun h0 => br_c (fun h9 => ?_) (fun h9 => ?_))))
    · exact br_t rfl (br_t rfl (zr_gy3 (ph := 0) hn.2.1 hj (br_t pos (br_f (by decide) (br_f (by decide) (br_t rfl (br_t h0 ⟨rfl, hR⟩)))))))
    · exact br_t rfl (br_t rfl (zr_gy3 (ph := 0) hn.2.1 hj (br_t pos (br_f (by decide) (br_f (by decide) (br_t rfl (br_f h0 (br_f (Int32.not_le.mpr h9) ⟨rfl, hR⟩))))))))
    · have hle : v3 ≤ 999 := Int32.not_lt.mp h9
      obtain ⟨x, hx, rfl⟩ := nI_of2 (M := 999) (n := 999) (by decide) h0 hle
      have ev1 : upd (zn_A (c 3)) (nI j).toNatClampNeg (nI x) = zn_A (zn_u (c 3) j x) := by rw [nI_clamp (by omega), zn_upd]
      refine br_f (by decide) (zr_gx3 (ph := 0) hn.2.1 hj (br_f (by decide) (br_f (by decide) (br_f (by decide) (br_t rfl (And.intro vin (nm_r ev1 ?_)))))))
      refine br_t rfl (zr_gy3 (ph := 0) hn.2.1 hj (br_t pos (br_f (by decide) (br_f (by decide) (br_t rfl (br_f h0 (br_t hle (br_t rfl (And.intro vin (nm_r ev1 ⟨rfl, ?_⟩))))))))))
      exact zr_in (ph := 0) (c := zn_v c 3 j x) (zr_Cv hC (Or.inr (Or.inl rfl)) (by omega) (fun h => absurd h (by decide)) (fun h => absurd h (by decide))) hL zr_P0
theorem zr_set4 (hC : zr_C c d ms mt ev mx) (hL : zr_L a_logLength a_log a_logSize a_logs) (k : Nat) (v2 v3 : Int32) : wpX_setField (fun r u' => wpY_setField (fun r' v' => r' = r ∧ i_Rel k u' v') (nI ms, nI mt, nI ev, nI mx, nI 0, nI (zs_n c), nI (zs_q c), g_found, zn_A (c 0), zn_A (c 1), zn_A (c 2), zn_A (c 3), zn_A (c 4), zn_A (c 5), zn_A (c 6), zn_A (c 7), zn_A (c 8), zn_A (c 9), zn_A (c 10), a_active, a_last, a_logs, a_logSize, a_enabled, a_taken, a_exited, a_by, a_before, a_here, a_next) 4 v2 v3) (nI ms, nI mt, nI ev, nI mx, zr_s 0, zr_b 0, nI (zs_n c), nI (d 6 0), nI (zs_q c), f_stepAfter, f_stepTaken, f_stepExited, f_stepEntered, f_situation0, f_place1, f_found, zn_A (c 0), zn_A (c 1), zn_A (c 2), zn_A (c 3), zn_A (c 4), zn_A (d 0), zn_A (d 1), zn_A (d 2), zn_A (d 3), zn_A (c 5), zn_A (c 6), zn_A (c 7), zn_A (c 8), zn_A (c 9), zn_A (c 10), zn_A (d 4), zn_A (d 5), a_log, a_logLength, a_situations, a_stepsTo, a_nextPlace, a_takenAt, a_exitedAt, a_enteredAt) 4 v2 v3 := by
  have hR : i_Rel k (nI ms, nI mt, nI ev, nI mx, zr_s 0, zr_b 0, nI (zs_n c), nI (d 6 0), nI (zs_q c), f_stepAfter, f_stepTaken, f_stepExited, f_stepEntered, f_situation0, f_place1, f_found, zn_A (c 0), zn_A (c 1), zn_A (c 2), zn_A (c 3), zn_A (c 4), zn_A (d 0), zn_A (d 1), zn_A (d 2), zn_A (d 3), zn_A (c 5), zn_A (c 6), zn_A (c 7), zn_A (c 8), zn_A (c 9), zn_A (c 10), zn_A (d 4), zn_A (d 5), a_log, a_logLength, a_situations, a_stepsTo, a_nextPlace, a_takenAt, a_exitedAt, a_enteredAt) (nI ms, nI mt, nI ev, nI mx, nI 0, nI (zs_n c), nI (zs_q c), g_found, zn_A (c 0), zn_A (c 1), zn_A (c 2), zn_A (c 3), zn_A (c 4), zn_A (c 5), zn_A (c 6), zn_A (c 7), zn_A (c 8), zn_A (c 9), zn_A (c 10), a_active, a_last, a_logs, a_logSize, a_enabled, a_taken, a_exited, a_by, a_before, a_here, a_next) := zr_in (ph := 0) hC hL zr_P0
  have hG := hC.1
  have hn := zs_Gn hG
  refine br_t rfl (br_f (by decide) (br_f (by decide) (br_f (by decide) (br_f (by decide) (br_t rfl ?_)))))
  unfold wX_maySet_98
  rcases pk_ix v2 (n := zs_n c) (by omega) with h | h | ⟨j, hj, rfl⟩
  · exact zr_isn (ph := 0) h (br_t rfl (br_t rfl (zr_nb4 hG v2 v3 (Or.inl h) ⟨rfl, hR⟩)))
  · exact zr_isb (ph := 0) hn.2.1 h (br_t rfl (br_t rfl (zr_nb4 hG v2 v3 (Or.inr h) ⟨rfl, hR⟩)))
  · have vin : vp_in (nI j) 12 := vp_in_nI (by omega) (by decide)
    have pos := zr_pos3 (zs_Gb hG 4 j)
    refine zr_isy (ph := 0) hn.2.1 hj (br_f (by decide) (br_c (fun h0 => ?_) (fun h0 => br_c (fun h9 => ?_) (fun h9 => ?_))))
    · exact br_t rfl (br_t rfl (zr_gy4 (ph := 0) hn.2.1 hj (br_t pos (br_f (by decide) (br_f (by decide) (br_f (by decide) (br_t rfl (br_t h0 ⟨rfl, hR⟩))))))))
    · exact br_t rfl (br_t rfl (zr_gy4 (ph := 0) hn.2.1 hj (br_t pos (br_f (by decide) (br_f (by decide) (br_f (by decide) (br_t rfl (br_f h0 (br_f (Int32.not_le.mpr h9) ⟨rfl, hR⟩)))))))))
    · have hle : v3 ≤ 999 := Int32.not_lt.mp h9
      obtain ⟨x, hx, rfl⟩ := nI_of2 (M := 999) (n := 999) (by decide) h0 hle
      have ev1 : upd (zn_A (c 4)) (nI j).toNatClampNeg (nI x) = zn_A (zn_u (c 4) j x) := by rw [nI_clamp (by omega), zn_upd]
      refine br_f (by decide) (zr_gx4 (ph := 0) hn.2.1 hj (br_f (by decide) (br_f (by decide) (br_f (by decide) (br_f (by decide) (br_t rfl (And.intro vin (nm_r ev1 ?_))))))))
      refine br_t rfl (zr_gy4 (ph := 0) hn.2.1 hj (br_t pos (br_f (by decide) (br_f (by decide) (br_f (by decide) (br_t rfl (br_f h0 (br_t hle (br_f (by decide) (br_t rfl (And.intro vin (nm_r ev1 ⟨rfl, ?_⟩))))))))))))
      exact zr_in (ph := 0) (c := zn_v c 4 j x) (zr_Cv hC (Or.inr (Or.inr (Or.inl rfl))) (by omega) (fun h => absurd h (by decide)) (fun h => absurd h (by decide))) hL zr_P0
theorem zr_set10 (hC : zr_C c d ms mt ev mx) (hL : zr_L a_logLength a_log a_logSize a_logs) (k : Nat) (v2 v3 : Int32) : wpX_setField (fun r u' => wpY_setField (fun r' v' => r' = r ∧ i_Rel k u' v') (nI ms, nI mt, nI ev, nI mx, nI 0, nI (zs_n c), nI (zs_q c), g_found, zn_A (c 0), zn_A (c 1), zn_A (c 2), zn_A (c 3), zn_A (c 4), zn_A (c 5), zn_A (c 6), zn_A (c 7), zn_A (c 8), zn_A (c 9), zn_A (c 10), a_active, a_last, a_logs, a_logSize, a_enabled, a_taken, a_exited, a_by, a_before, a_here, a_next) 10 v2 v3) (nI ms, nI mt, nI ev, nI mx, zr_s 0, zr_b 0, nI (zs_n c), nI (d 6 0), nI (zs_q c), f_stepAfter, f_stepTaken, f_stepExited, f_stepEntered, f_situation0, f_place1, f_found, zn_A (c 0), zn_A (c 1), zn_A (c 2), zn_A (c 3), zn_A (c 4), zn_A (d 0), zn_A (d 1), zn_A (d 2), zn_A (d 3), zn_A (c 5), zn_A (c 6), zn_A (c 7), zn_A (c 8), zn_A (c 9), zn_A (c 10), zn_A (d 4), zn_A (d 5), a_log, a_logLength, a_situations, a_stepsTo, a_nextPlace, a_takenAt, a_exitedAt, a_enteredAt) 10 v2 v3 := by
  have hR : i_Rel k (nI ms, nI mt, nI ev, nI mx, zr_s 0, zr_b 0, nI (zs_n c), nI (d 6 0), nI (zs_q c), f_stepAfter, f_stepTaken, f_stepExited, f_stepEntered, f_situation0, f_place1, f_found, zn_A (c 0), zn_A (c 1), zn_A (c 2), zn_A (c 3), zn_A (c 4), zn_A (d 0), zn_A (d 1), zn_A (d 2), zn_A (d 3), zn_A (c 5), zn_A (c 6), zn_A (c 7), zn_A (c 8), zn_A (c 9), zn_A (c 10), zn_A (d 4), zn_A (d 5), a_log, a_logLength, a_situations, a_stepsTo, a_nextPlace, a_takenAt, a_exitedAt, a_enteredAt) (nI ms, nI mt, nI ev, nI mx, nI 0, nI (zs_n c), nI (zs_q c), g_found, zn_A (c 0), zn_A (c 1), zn_A (c 2), zn_A (c 3), zn_A (c 4), zn_A (c 5), zn_A (c 6), zn_A (c 7), zn_A (c 8), zn_A (c 9), zn_A (c 10), a_active, a_last, a_logs, a_logSize, a_enabled, a_taken, a_exited, a_by, a_before, a_here, a_next) := zr_in (ph := 0) hC hL zr_P0
  have hG := hC.1
  have hn := zs_Gn hG
  refine br_t rfl (br_f (by decide) (br_f (by decide) (br_f (by decide) (br_f (by decide) (br_f (by decide) (br_f (by decide) (br_f (by decide) (br_f (by decide) (br_f (by decide) (br_f (by decide) (br_t rfl ?_)))))))))))
  rcases pk_ix v2 (n := zs_q c) (by omega) with h | h | ⟨j, hj, rfl⟩
  · exact zr_itn (ph := 0) h (br_t rfl (br_t rfl (zr_nb10 hG v2 v3 (Or.inl h) ⟨rfl, hR⟩)))
  · exact zr_itb (ph := 0) hn.2.2.1 h (br_t rfl (br_t rfl (zr_nb10 hG v2 v3 (Or.inr h) ⟨rfl, hR⟩)))
  · have vin : vp_in (nI j) 16 := vp_in_nI (by omega) (by decide)
    have pos := zr_pos3 (zs_Gb hG 10 j)
    refine zr_ity (ph := 0) hn.2.2.1 hj (br_f (by decide) (br_c (fun h0 => ?_) (fun h0 => br_c (fun h9 => ?_) (fun h9 => ?_))))
    · exact br_t rfl (br_t rfl (zr_gy10 (ph := 0) hn.2.2.1 hj (br_t pos (br_f (by decide) (br_f (by decide) (br_f (by decide) (br_f (by decide) (br_t rfl (br_t h0 ⟨rfl, hR⟩)))))))))
    · exact br_t rfl (br_t rfl (zr_gy10 (ph := 0) hn.2.2.1 hj (br_t pos (br_f (by decide) (br_f (by decide) (br_f (by decide) (br_f (by decide) (br_t rfl (br_f h0 (br_f (Int32.not_le.mpr h9) ⟨rfl, hR⟩))))))))))
    · have hle : v3 ≤ 999 := Int32.not_lt.mp h9
      obtain ⟨x, hx, rfl⟩ := nI_of2 (M := 999) (n := 999) (by decide) h0 hle
      have ev1 : upd (zn_A (c 10)) (nI j).toNatClampNeg (nI x) = zn_A (zn_u (c 10) j x) := by rw [nI_clamp (by omega), zn_upd]
      refine br_f (by decide) (zr_gx10 (ph := 0) hn.2.2.1 hj (br_f (by decide) (br_t (by decide) (And.intro vin (nm_r ev1 ?_)))))
      refine br_t rfl (zr_gy10 (ph := 0) hn.2.2.1 hj (br_t pos (br_f (by decide) (br_f (by decide) (br_f (by decide) (br_f (by decide) (br_t rfl (br_f h0 (br_t hle (br_f (by decide) (br_f (by decide) (And.intro vin (nm_r ev1 ⟨rfl, ?_⟩)))))))))))))
      exact zr_in (ph := 0) (c := zn_v c 10 j x) (zr_Cv hC (Or.inr (Or.inr (Or.inr (Or.inr rfl)))) (by omega) (fun h => absurd h (by decide)) (fun h => absurd h (by decide))) hL zr_P0
theorem zr_set9 (hC : zr_C c d ms mt ev mx) (hL : zr_L a_logLength a_log a_logSize a_logs) (k : Nat) (v2 v3 : Int32) : wpX_setField (fun r u' => wpY_setField (fun r' v' => r' = r ∧ i_Rel k u' v') (nI ms, nI mt, nI ev, nI mx, nI 0, nI (zs_n c), nI (zs_q c), g_found, zn_A (c 0), zn_A (c 1), zn_A (c 2), zn_A (c 3), zn_A (c 4), zn_A (c 5), zn_A (c 6), zn_A (c 7), zn_A (c 8), zn_A (c 9), zn_A (c 10), a_active, a_last, a_logs, a_logSize, a_enabled, a_taken, a_exited, a_by, a_before, a_here, a_next) 9 v2 v3) (nI ms, nI mt, nI ev, nI mx, zr_s 0, zr_b 0, nI (zs_n c), nI (d 6 0), nI (zs_q c), f_stepAfter, f_stepTaken, f_stepExited, f_stepEntered, f_situation0, f_place1, f_found, zn_A (c 0), zn_A (c 1), zn_A (c 2), zn_A (c 3), zn_A (c 4), zn_A (d 0), zn_A (d 1), zn_A (d 2), zn_A (d 3), zn_A (c 5), zn_A (c 6), zn_A (c 7), zn_A (c 8), zn_A (c 9), zn_A (c 10), zn_A (d 4), zn_A (d 5), a_log, a_logLength, a_situations, a_stepsTo, a_nextPlace, a_takenAt, a_exitedAt, a_enteredAt) 9 v2 v3 := by
  have hR : i_Rel k (nI ms, nI mt, nI ev, nI mx, zr_s 0, zr_b 0, nI (zs_n c), nI (d 6 0), nI (zs_q c), f_stepAfter, f_stepTaken, f_stepExited, f_stepEntered, f_situation0, f_place1, f_found, zn_A (c 0), zn_A (c 1), zn_A (c 2), zn_A (c 3), zn_A (c 4), zn_A (d 0), zn_A (d 1), zn_A (d 2), zn_A (d 3), zn_A (c 5), zn_A (c 6), zn_A (c 7), zn_A (c 8), zn_A (c 9), zn_A (c 10), zn_A (d 4), zn_A (d 5), a_log, a_logLength, a_situations, a_stepsTo, a_nextPlace, a_takenAt, a_exitedAt, a_enteredAt) (nI ms, nI mt, nI ev, nI mx, nI 0, nI (zs_n c), nI (zs_q c), g_found, zn_A (c 0), zn_A (c 1), zn_A (c 2), zn_A (c 3), zn_A (c 4), zn_A (c 5), zn_A (c 6), zn_A (c 7), zn_A (c 8), zn_A (c 9), zn_A (c 10), a_active, a_last, a_logs, a_logSize, a_enabled, a_taken, a_exited, a_by, a_before, a_here, a_next) := zr_in (ph := 0) hC hL zr_P0
  have hG := hC.1
  have hn := zs_Gn hG
  have e2n : 2 * nI (zs_n c) + 1 = nI (2 * zs_n c + 1) := by
    show nI 2 * nI (zs_n c) + nI 1 = _
    rw [pk_mul, nI_add]
  refine br_t rfl (br_f (by decide) (br_f (by decide) (br_f (by decide) (br_f (by decide) (br_f (by decide) (br_f (by decide) (br_f (by decide) (br_f (by decide) (br_f (by decide) (br_t rfl ?_))))))))))
  rcases pk_ix v2 (n := zs_q c) (by omega) with h | h | ⟨j, hj, rfl⟩
  · exact zr_itn (ph := 0) h (br_t rfl (br_t rfl (zr_nb9 hG v2 v3 (Or.inl h) ⟨rfl, hR⟩)))
  · exact zr_itb (ph := 0) hn.2.2.1 h (br_t rfl (br_t rfl (zr_nb9 hG v2 v3 (Or.inr h) ⟨rfl, hR⟩)))
  · have vin : vp_in (nI j) 16 := vp_in_nI (by omega) (by decide)
    have pos := zr_pos3 (zs_Gb hG 9 j)
    refine zr_ity (ph := 0) hn.2.2.1 hj (br_f (by decide) ?_)
    rw [e2n]
    refine br_c (fun h0 => ?_) (fun h0 => br_c (fun h2 => ?_) (fun h2 => br_c (fun h9 => ?_) (fun h9 => ?_)))
    · subst h0
      have ev1 : upd (zn_A (c 9)) (nI j).toNatClampNeg 0 = zn_A (zn_u (c 9) j 0) := by rw [nI_clamp (by omega)]; exact zn_upd (c 9) j 0
      refine br_f (by decide) (zr_gx9 (ph := 0) hn.2.2.1 hj (br_f (by decide) (br_f (by decide) (br_f (by decide) (br_f (by decide) (br_f (by decide) (br_f (by decide) (br_f (by decide) (br_f (by decide) (br_f (by decide) (br_t rfl (And.intro vin (nm_r ev1 ?_)))))))))))))
      refine br_t rfl (zr_gy9 (ph := 0) hn.2.2.1 hj (br_t pos (br_f (by decide) (br_t rfl (br_t rfl (And.intro vin (nm_r ev1 ⟨rfl, ?_⟩)))))))
      exact zr_in (ph := 0) (c := zn_v c 9 j 0) (zr_Cv hC (Or.inr (Or.inr (Or.inr (Or.inl rfl)))) (by decide) (fun h => absurd h (by decide)) (fun _ => ⟨hj, Or.inl rfl⟩)) hL zr_P0
    · exact br_t rfl (br_t rfl (zr_gy9 (ph := 0) hn.2.2.1 hj (br_t pos (br_f (by decide) (br_t rfl (br_f h0 (br_t h2 ⟨rfl, hR⟩)))))))
    · refine br_t rfl (br_t rfl (zr_gy9 (ph := 0) hn.2.2.1 hj (br_t pos (br_f (by decide) (br_t rfl (br_f h0 (br_f h2 ?_)))))))
      rw [e2n]
      exact br_f (Int32.not_le.mpr h9) ⟨rfl, hR⟩
    · have hle : v3 ≤ nI (2 * zs_n c + 1) := Int32.not_lt.mp h9
      have hnn : ¬ v3 < 0 := fun z => h2 (zr_lt2v z)
      obtain ⟨x, hx, rfl⟩ := nI_of2 (M := nI (2 * zs_n c + 1)) (n := 2 * zs_n c + 1) (nI_toInt (by omega)) hnn hle
      have hx2 : 2 ≤ x := by
        rcases Nat.lt_or_ge x 2 with z | z
        · exact absurd (nI_lt (b := 2) z (by decide)) h2
        · exact z
      have ev1 : upd (zn_A (c 9)) (nI j).toNatClampNeg (nI x) = zn_A (zn_u (c 9) j x) := by rw [nI_clamp (by omega), zn_upd]
      refine br_f (by decide) (zr_gx9 (ph := 0) hn.2.2.1 hj (br_f (by decide) (br_f (by decide) (br_f (by decide) (br_f (by decide) (br_f (by decide) (br_f (by decide) (br_f (by decide) (br_f (by decide) (br_f (by decide) (br_t rfl (And.intro vin (nm_r ev1 ?_)))))))))))))
      refine br_t rfl (zr_gy9 (ph := 0) hn.2.2.1 hj (br_t pos (br_f (by decide) (br_t rfl (br_f h0 (br_f h2 ?_))))))
      rw [e2n]
      refine br_t hle (And.intro vin (nm_r ev1 ⟨rfl, ?_⟩))
      exact zr_in (ph := 0) (c := zn_v c 9 j x) (zr_Cv hC (Or.inr (Or.inr (Or.inr (Or.inl rfl)))) (by omega) (fun h => absurd h (by decide)) (fun _ => ⟨hj, Or.inr ⟨hx2, hx⟩⟩)) hL zr_P0
end ZVH
section ZVI
theorem i_vc_setField {k : Nat} {u : SX} {v : SY} (I : i_Rel k u v) (hk : k + 5 ≤ 2564) (v1 : Int32) (v2 : Int32) (v3 : Int32) : wpX_setField (fun r u' => wpY_setField (fun r' v' => r' = r ∧ i_Rel (k + 5) u' v') v v1 v2 v3) u v1 v2 v3 := by
  refine zr_el (P := fun u v => wpX_setField (fun r u' => wpY_setField (fun r' v' => r' = r ∧ i_Rel (k + 5) u' v') v v1 v2 v3) u v1 v2 v3) I ?_
  intro c d ms mt ev mx ph f_stepAfter f_stepTaken f_stepExited f_stepEntered f_situation0 f_place1 f_found g_found a_log a_logLength a_situations a_stepsTo a_nextPlace a_takenAt a_exitedAt a_enteredAt a_active a_last a_logs a_logSize a_enabled a_taken a_exited a_by a_before a_here a_next hC hL hP
  have hR : i_Rel (k + 5) (nI ms, nI mt, nI ev, nI mx, zr_s ph, zr_b ph, nI (zs_n c), nI (d 6 0), nI (zs_q c), f_stepAfter, f_stepTaken, f_stepExited, f_stepEntered, f_situation0, f_place1, f_found, zn_A (c 0), zn_A (c 1), zn_A (c 2), zn_A (c 3), zn_A (c 4), zn_A (d 0), zn_A (d 1), zn_A (d 2), zn_A (d 3), zn_A (c 5), zn_A (c 6), zn_A (c 7), zn_A (c 8), zn_A (c 9), zn_A (c 10), zn_A (d 4), zn_A (d 5), a_log, a_logLength, a_situations, a_stepsTo, a_nextPlace, a_takenAt, a_exitedAt, a_enteredAt) (nI ms, nI mt, nI ev, nI mx, nI ph, nI (zs_n c), nI (zs_q c), g_found, zn_A (c 0), zn_A (c 1), zn_A (c 2), zn_A (c 3), zn_A (c 4), zn_A (c 5), zn_A (c 6), zn_A (c 7), zn_A (c 8), zn_A (c 9), zn_A (c 10), a_active, a_last, a_logs, a_logSize, a_enabled, a_taken, a_exited, a_by, a_before, a_here, a_next) := zr_in hC hL hP
  have hp' : ph = 0 ∨ ph = 1 ∨ ph = 2 := by have := hP.1; omega
  rcases hp' with rfl | rfl | rfl
  · rcases pk_ix v1 (n := 11) (by decide) with h | h | ⟨f, hf, rfl⟩
    · exact br_t rfl (br_t (zr_lt2v h) (br_t rfl (br_t rfl (br_t h (br_f zr_n3 ⟨rfl, hR⟩)))))
    · have a := zr_ge11 h
      exact br_t rfl (br_f a.2.2.2 (br_t a.2.2.1 (br_t rfl (br_t rfl (br_f a.1 (br_t a.2.2.1 (br_f zr_n3 ⟨rfl, hR⟩)))))))
    · rcases zr_f11 hf with rfl | rfl | rfl | rfl | rfl | rfl | rfl | rfl | rfl | rfl | rfl
      · exact zr_set0 hC hL (k + 5) v2 v3
      · exact zr_set1 hC hL (k + 5) v2 v3
      · exact zr_set2 hC hL (k + 5) v2 v3
      · exact zr_set3 hC hL (k + 5) v2 v3
      · exact zr_set4 hC hL (k + 5) v2 v3
      · exact zr_set5 hC hL (k + 5) v2 v3
      · exact zr_set6 hC hL (k + 5) v2 v3
      · exact zr_set7 hC hL (k + 5) v2 v3
      · exact zr_set8 hC hL (k + 5) v2 v3
      · exact zr_set9 hC hL (k + 5) v2 v3
      · exact zr_set10 hC hL (k + 5) v2 v3
  · exact br_f (by decide) (br_f (by decide) ⟨rfl, hR⟩)
  · exact br_f (by decide) (br_f (by decide) ⟨rfl, hR⟩)
end ZVI
end
section
section ZAS
/-! a state added: the chart and the derived tables -/
def za_c (c : Nat → Nat → Nat) (p kd : Nat) (ini : Nat → Nat) : Nat → Nat → Nat := fun i => if i = 0 then zn_u (c 0) (zs_n c) p else if i = 1 then zn_u (c 1) (zs_n c) kd else if i = 2 then ini else if i = 3 then zn_u (c 3) (zs_n c) (100 + zs_n c) else if i = 4 then zn_u (c 4) (zs_n c) (200 + zs_n c) else if i = 11 then (fun _ => zs_n c + 1) else c i
/-- the descendants' masks when the ancestors below a are done -/
def za_ds (ds : Nat → Nat) (A n a : Nat) : Nat → Nat := fun x => if (decide (x < a) && A.testBit x) = true then ds x ||| 2 ^ n else ds x
def za_d (c d : Nat → Nat → Nat) (p ex : Nat) : Nat → Nat → Nat := fun i => if i = 0 then zn_u (d 0) (zs_n c) (d 0 p + 1) else if i = 1 then zn_u (d 1) (zs_n c) (d 1 p ||| 2 ^ p) else if i = 2 then za_ds (d 2) (d 1 p ||| 2 ^ p) (zs_n c) (zs_n c) else if i = 3 then zn_u (d 3) p (d 3 p ||| 2 ^ zs_n c) else if i = 6 then (fun _ => ex) else d i
variable {c d : Nat → Nat → Nat} {ev p kd ex : Nat} {ini : Nat → Nat}
theorem za_ds_0 (ds : Nat → Nat) (A n : Nat) : za_ds ds A n 0 = ds := by
  funext x
  unfold za_ds
  rw [decide_eq_false (Nat.not_lt_zero x), Bool.false_and, if_neg (by decide)]
theorem za_ds_n {ds : Nat → Nat} {A n a : Nat} (h : A.testBit a = false) : za_ds ds A n (a + 1) = za_ds ds A n a := by
  funext x
  unfold za_ds
  by_cases e : x = a
  · rw [e, h, Bool.and_false, Bool.and_false]
  · by_cases e2 : x < a
    · rw [decide_eq_true e2, decide_eq_true (show x < a + 1 by omega)]
    · rw [decide_eq_false e2, decide_eq_false (show ¬ x < a + 1 by omega)]
theorem za_ds_t {ds : Nat → Nat} {A n a : Nat} (h : A.testBit a = true) : zn_u (za_ds ds A n a) a (za_ds ds A n a a ||| 2 ^ n) = za_ds ds A n (a + 1) := by
  funext x
  by_cases e : x = a
  · rw [e, zn_us]
    unfold za_ds
    rw [h, decide_eq_false (Nat.lt_irrefl a), decide_eq_true (show a < a + 1 by omega), Bool.false_and, if_neg (by decide), if_pos (by decide)]
  · rw [zn_un e]
    unfold za_ds
    by_cases e2 : x < a
    · rw [decide_eq_true e2, decide_eq_true (show x < a + 1 by omega)]
    · rw [decide_eq_false e2, decide_eq_false (show ¬ x < a + 1 by omega)]
theorem za_P (hG : zs_G c ev) (hn : zs_n c < 12) (hp : p < zs_n c) : zc_P (za_c c p kd ini 0) (zs_n c + 1) := by
  refine ⟨hn, fun s h0 hs => ?_⟩
  show zn_u (c 0) (zs_n c) p s < s
  by_cases e : s = zs_n c
  · rw [e, zn_us]; exact hp
  · rw [zn_un e]; exact (zs_GP hG).2 s h0 (by omega)
theorem za_p (x : Nat) (hx : x < zs_n c) : za_c c p kd ini 0 x = c 0 x := zn_un (by omega)
theorem za_k (x : Nat) (hx : x < zs_n c) : za_c c p kd ini 1 x = c 1 x := zn_un (by omega)
theorem za_AB (hG : zs_G c ev) {a s : Nat} (hs : s < zs_n c) : zc_AB (za_c c p kd ini 0) a s = zc_AB (c 0) a s := zc_AB_cg (zs_GP hG) za_p hs
theorem za_DP (hG : zs_G c ev) {s : Nat} (hs : s < zs_n c) : zc_DP (za_c c p kd ini 0) s = zc_DP (c 0) s := zc_DP_cg (zs_GP hG) za_p hs
theorem za_ABn (hG : zs_G c ev) (hn : zs_n c < 12) (hp : p < zs_n c) {a : Nat} : zc_AB (za_c c p kd ini 0) a (zs_n c) = (decide (p = a) || zc_AB (c 0) a p) := by
  have h1 := zs_Gn hG
  rw [zc_AB_s (za_P (kd := kd) (ini := ini) hG hn hp) (by omega) (by omega)]
  have e : za_c c p kd ini 0 (zs_n c) = p := zn_us
  rw [e, za_AB hG hp]
theorem za_G (hG : zs_G c ev) (hn : zs_n c < 12) (hp : p < zs_n c) (hk : kd ≤ 1) (hi : ini = if c 1 p = 0 ∧ c 2 p = 0 then zn_u (c 2) p (zs_n c) else c 2) : zs_G (za_c c p kd ini) ev := by
  obtain ⟨g1, g2, g3, g4, g5, g6, g7, g8, g9⟩ := hG
  have hG : zs_G c ev := ⟨g1, g2, g3, g4, g5, g6, g7, g8, g9⟩
  have hini : ∀ s, s ≠ p → ini s = c 2 s := by
    intro s hs
    rw [hi]
    split
    · exact zn_un hs
    · rfl
  have hnz : ∀ s, c 2 s ≠ 0 → ini s ≠ 0 ∧ (ini s = c 2 s) := by
    intro s hs
    rw [hi]
    by_cases h : c 1 p = 0 ∧ c 2 p = 0
    · rw [if_pos h]
      by_cases e : s = p
      · rw [e] at hs; exact absurd h.2 hs
      · rw [zn_un e]; exact ⟨hs, rfl⟩
    · rw [if_neg h]; exact ⟨hs, rfl⟩
  refine ⟨⟨by show 1 ≤ zs_n c + 1; omega, by show zs_n c + 1 ≤ 12; omega, g1.2.2.1, g1.2.2.2⟩, (za_P (kd := kd) (ini := ini) hG hn hp).2, ⟨?_, fun s hs => ?_⟩, fun s hs h => ?_, fun x h0 hx h => ?_, fun s hs => ?_, fun t ht => ?_, g8, fun i j => ?_⟩
  · rw [za_k 0 (by omega)]; exact g3.1
  · have hs' : s < zs_n c + 1 := hs
    by_cases e : s = zs_n c
    · rw [e]
      show zn_u (c 1) (zs_n c) kd (zs_n c) ≤ 1
      rw [zn_us]; exact hk
    · rw [za_k s (by omega)]; exact g3.2 s (by omega)
  · have hs' : s < zs_n c + 1 := hs
    show za_c c p kd ini 1 s = 0 ∧ ini s < zs_n c + 1 ∧ za_c c p kd ini 0 (ini s) = s
    have h' : ini s ≠ 0 := h
    by_cases e : s = zs_n c
    · rw [e, hini _ (by omega), g6 (zs_n c) (Nat.le_refl _)] at h'
      exact absurd rfl h'
    · rw [za_k s (by omega)]
      by_cases e2 : s = p ∧ c 2 p = 0
      · by_cases e3 : c 1 p = 0
        · have ei : ini s = zs_n c := by rw [hi, if_pos ⟨e3, e2.2⟩, e2.1, zn_us]
          rw [ei, e2.1]
          exact ⟨e3, by omega, zn_us⟩
        · rw [hi, if_neg (fun z => e3 z.1), e2.1] at h'
          exact absurd e2.2 h'
      · have ec : c 2 s ≠ 0 := by
          by_cases e3 : s = p
          · rw [e3]; exact fun z => e2 ⟨e3, z⟩
          · rw [hini s e3] at h'; exact h'
        have a := g4 s (by omega) ec
        rw [(hnz s ec).2, za_p _ a.2.1]
        exact ⟨a.1, by omega, a.2.2⟩
  · have hx' : x < zs_n c + 1 := hx
    show ini (za_c c p kd ini 0 x) ≠ 0
    by_cases e : x = zs_n c
    · have e0 : za_c c p kd ini 0 x = p := by rw [e]; exact zn_us
      rw [e0] at h ⊢
      rw [za_k p hp] at h
      by_cases e2 : c 2 p = 0
      · rw [hi, if_pos ⟨h, e2⟩, zn_us]; omega
      · exact (hnz p e2).1
    · have hx2 : x < zs_n c := by omega
      have hlt := (zs_GP hG).2 x h0 hx2
      rw [za_p x hx2] at h ⊢
      rw [za_k _ (by omega)] at h
      exact (hnz _ (g5 x h0 hx2 h)).1
  · have hs' : zs_n c + 1 ≤ s := hs
    show ini s = 0
    rw [hini s (by omega)]; exact g6 s (by omega)
  · have a := g7 t ht
    refine ⟨?_, a.2.1, a.2.2.1, ?_, a.2.2.2.2.1, ?_⟩
    · show c 5 t < zs_n c + 1; have := a.1; omega
    · show c 7 t < zs_n c + 1; have := a.2.2.2.1; omega
    · show c 9 t = 0 ∨ (2 ≤ c 9 t ∧ c 9 t ≤ 2 * (zs_n c + 1) + 1)
      have := a.2.2.2.2.2; omega
  · have hu : ∀ (f : Nat → Nat) (v : Nat), (∀ y, f y < 2 ^ 31) → v < 2 ^ 31 → zn_u f (zs_n c) v j < 2 ^ 31 := by
      intro f v hf hv
      by_cases e : j = zs_n c
      · rw [e, zn_us]; exact hv
      · rw [zn_un e]; exact hf j
    unfold za_c
    split
    · exact hu _ _ (g9 0) (by omega)
    · split
      · exact hu _ _ (g9 1) (by omega)
      · split
        · rw [hi]
          split
          · by_cases e : j = p
            · rw [e, zn_us]; omega
            · rw [zn_un e]; exact g9 2 j
          · exact g9 2 j
        · split
          · exact hu _ _ (g9 3) (by omega)
          · split
            · exact hu _ _ (g9 4) (by omega)
            · split
              · show zs_n c + 1 < 2 ^ 31; omega
              · exact g9 i j
theorem za_D (hG : zs_G c ev) (hD : zx_D c d) (hn : zs_n c < 12) (hp : p < zs_n c) (hk : kd ≤ 1) (he : ex = if kd = 0 then d 6 0 ||| 2 ^ zs_n c else d 6 0) : zx_D (za_c c p kd ini) (za_d c d p ex) := by
  have hP' := za_P (kd := kd) (ini := ini) hG hn hp
  have h1 := zs_Gn hG
  obtain ⟨q1, q2, q3, q4, q5, q6, q7⟩ := hD
  have hD : zx_D c d := ⟨q1, q2, q3, q4, q5, q6, q7⟩
  have hA : ∀ a, (d 1 p ||| 2 ^ p).testBit a = zc_AB (za_c c p kd ini 0) a (zs_n c) := by
    intro a
    rw [za_ABn hG hn hp, Nat.testBit_or, Nat.testBit_two_pow, q2 p hp, Bool.or_comm]
    by_cases ha : a < 12
    · rw [zn_mk_in ha]
    · rw [zn_mk_out (by omega), zc_AB_ge (zs_GP hG) hp (by omega)]
  refine ⟨fun s hs => ?_, fun s hs => ?_, fun a ha => ?_, fun a ha => ?_, fun t ht => ?_, ⟨q6.1, fun i j hij hj => ?_, q6.2.2⟩, ?_⟩
  · have hs' : s < zs_n c + 1 := hs
    show zn_u (d 0) (zs_n c) (d 0 p + 1) s = _
    by_cases e : s = zs_n c
    · rw [e, zn_us, zc_DP_s hP' (by omega) (by omega)]
      have e0 : za_c c p kd ini 0 (zs_n c) = p := zn_us
      rw [e0, za_DP hG hp, q1 p hp]
    · rw [zn_un e, za_DP hG (by omega), q1 s (by omega)]
  · have hs' : s < zs_n c + 1 := hs
    show zn_u (d 1) (zs_n c) (d 1 p ||| 2 ^ p) s = _
    by_cases e : s = zs_n c
    · rw [e, zn_us]
      apply zn_mk_of
      · rw [q2 p hp]; exact Nat.or_lt_two_pow (zn_mk_lt _ _) (zs_2p (by omega))
      · intro a _
        exact hA a
    · rw [zn_un e, q2 s (by omega)]
      apply zn_mk_cg
      intro a _
      exact (za_AB hG (by omega)).symm
  · show za_ds (d 2) (d 1 p ||| 2 ^ p) (zs_n c) (zs_n c) a = zn_mk (zs_n c + 1) _
    have hlt : d 2 a < 2 ^ zs_n c := by rw [q3 a ha]; exact zn_mk_lt _ _
    have hle : 2 ^ zs_n c < 2 ^ (zs_n c + 1) := zs_2p (by omega)
    unfold za_ds
    rw [hA a]
    have hbit : ∀ s, s < zs_n c → (d 2 a).testBit s = zc_AB (za_c c p kd ini 0) a s := by
      intro s hs
      rw [q3 a ha, zn_mk_in hs, za_AB hG hs]
    by_cases hb : zc_AB (za_c c p kd ini 0) a (zs_n c) = true
    · have han := zc_AB_lt hP' _ (by omega) hb
      rw [hb, decide_eq_true han, if_pos (by decide)]
      apply zn_mk_of (Nat.or_lt_two_pow (by omega) hle)
      intro s hs
      rw [Nat.testBit_or, Nat.testBit_two_pow]
      by_cases e : s = zs_n c
      · rw [e, decide_eq_true rfl, Bool.or_true, hb]
      · rw [decide_eq_false (fun z => e z.symm), Bool.or_false, hbit s (by omega)]
    · rw [zn_bf hb, Bool.and_false, if_neg (by decide)]
      apply zn_mk_of (by omega)
      intro s hs
      by_cases e : s = zs_n c
      · rw [e, zn_hb hlt (Nat.le_refl _), zn_bf hb]
      · rw [hbit s (by omega)]
  · show zn_u (d 3) p (d 3 p ||| 2 ^ zs_n c) a = zn_mk (zs_n c + 1) _
    have hle : 2 ^ zs_n c < 2 ^ (zs_n c + 1) := zs_2p (by omega)
    have hlt : ∀ x, x < 12 → d 3 x < 2 ^ zs_n c := fun x hx => by rw [q4 x hx]; exact zn_mk_lt _ _
    have hbit : ∀ s, s < zs_n c → (d 3 a).testBit s = (decide (0 < s) && decide (za_c c p kd ini 0 s = a)) := by
      intro s hs
      rw [q4 a ha, zn_mk_in hs, za_p s hs]
    have e0 : za_c c p kd ini 0 (zs_n c) = p := zn_us
    by_cases e : a = p
    · rw [e, zn_us]
      rw [e] at hbit
      have := hlt p (by omega)
      apply zn_mk_of (Nat.or_lt_two_pow (by omega) hle)
      intro s hs
      rw [Nat.testBit_or, Nat.testBit_two_pow]
      by_cases e2 : s = zs_n c
      · rw [e2, decide_eq_true rfl, Bool.or_true, e0, decide_eq_true rfl, decide_eq_true (show 0 < zs_n c by omega)]; rfl
      · rw [decide_eq_false (fun z => e2 z.symm), Bool.or_false, hbit s (by omega)]
    · rw [zn_un e]
      have := hlt a ha
      apply zn_mk_of (by omega)
      intro s hs
      by_cases e2 : s = zs_n c
      · rw [e2, zn_hb this (Nat.le_refl _), e0, decide_eq_false (p := p = a) (fun z => e z.symm), Bool.and_false]
      · rw [hbit s (by omega)]
  · have a := zs_Gt hG ht
    have ht' : t < zs_q c := ht
    show d 4 t = zc_DM (za_c c p kd ini 0) (za_c c p kd ini 1) (c 5 t) (c 7 t)
    rw [q5 t ht, zc_DM_cg (zs_GP hG) a.1 a.2.2.2.1 za_p za_k]
  · have hj' : j < zs_q c := hj
    have b := q6.2.1 i j hij hj
    have e1 : zs_BF (za_c c p kd ini) (d 5 i) (d 5 j) = zs_BF c (d 5 i) (d 5 j) := by
      unfold zs_BF
      show (decide (zc_DP (za_c c p kd ini 0) (c 5 (d 5 j)) < zc_DP (za_c c p kd ini 0) (c 5 (d 5 i))) || (decide (zc_DP (za_c c p kd ini 0) (c 5 (d 5 i)) = zc_DP (za_c c p kd ini 0) (c 5 (d 5 j))) && decide (d 5 i < d 5 j))) = _
      rw [za_DP hG (zs_Gt hG (q6.1 j hj)).1, za_DP hG (zs_Gt hG (q6.1 i (by omega))).1]
    show zs_BF (za_c c p kd ini) (d 5 i) (d 5 j) = true
    rw [e1]; exact b
  · show ex = zn_mk (zs_n c + 1) _
    have hle : 2 ^ zs_n c < 2 ^ (zs_n c + 1) := zs_2p (by omega)
    have hlt : d 6 0 < 2 ^ zs_n c := by rw [q7]; exact zn_mk_lt _ _
    have hbit : ∀ s, s < zs_n c → (d 6 0).testBit s = decide (za_c c p kd ini 1 s = 0) := by
      intro s hs
      rw [q7, zn_mk_in hs, za_k s hs]
    have e0 : za_c c p kd ini 1 (zs_n c) = kd := zn_us
    rw [he]
    by_cases hk0 : kd = 0
    · rw [if_pos hk0]
      apply zn_mk_of (Nat.or_lt_two_pow (by omega) hle)
      intro s hs
      rw [Nat.testBit_or, Nat.testBit_two_pow]
      by_cases e2 : s = zs_n c
      · rw [e2, decide_eq_true rfl, Bool.or_true, e0, decide_eq_true hk0]
      · rw [decide_eq_false (fun z => e2 z.symm), Bool.or_false, hbit s (by omega)]
    · rw [if_neg hk0]
      apply zn_mk_of (by omega)
      intro s hs
      by_cases e2 : s = zs_n c
      · rw [e2, zn_hb hlt (Nat.le_refl _), e0, decide_eq_false hk0]
      · rw [hbit s (by omega)]
/-! the component's loop over the ancestors -/
variable {an ds kn : Nat → Nat} {f_maxStates f_maxTransitions f_events f_maxSituations f_sealed f_built f_n f_exclusiveStates f_q f_stepTaken f_stepExited f_stepEntered f_place1 f_found : Int32} {f_stepAfter f_situation0 : Int64} {a_parent a_entryAction a_exitAction a_depth a_children a_source a_eventOf a_target a_mode a_guard a_action a_domain a_order a_log a_logLength a_stepsTo a_nextPlace a_takenAt a_exitedAt a_enteredAt : Nat → Int32} {a_situations : Nat → Int64}
theorem zx_lk {post : SX → Prop} {n p A : Nat} (hn : n < 12) (hp : p < n) (hA : an n = A) (hAl : A < 2 ^ 12) (hkb : kn p < 2 ^ 31) (hib : ini p < 2 ^ 31) (K1 : kn p = 0 → ini p = 0 → post (f_maxStates, f_maxTransitions, f_events, f_maxSituations, f_sealed, f_built, f_n, f_exclusiveStates, f_q, f_stepAfter, f_stepTaken, f_stepExited, f_stepEntered, f_situation0, f_place1, f_found, a_parent, zn_A kn, zn_A (zn_u ini p n), a_entryAction, a_exitAction, a_depth, zn_A an, zn_A (za_ds ds A n n), a_children, a_source, a_eventOf, a_target, a_mode, a_guard, a_action, a_domain, a_order, a_log, a_logLength, a_situations, a_stepsTo, a_nextPlace, a_takenAt, a_exitedAt, a_enteredAt)) (K2 : ¬ (kn p = 0 ∧ ini p = 0) → post (f_maxStates, f_maxTransitions, f_events, f_maxSituations, f_sealed, f_built, f_n, f_exclusiveStates, f_q, f_stepAfter, f_stepTaken, f_stepExited, f_stepEntered, f_situation0, f_place1, f_found, a_parent, zn_A kn, zn_A ini, a_entryAction, a_exitAction, a_depth, zn_A an, zn_A (za_ds ds A n n), a_children, a_source, a_eventOf, a_target, a_mode, a_guard, a_action, a_domain, a_order, a_log, a_logLength, a_situations, a_stepsTo, a_nextPlace, a_takenAt, a_exitedAt, a_enteredAt)) : ∀ k a, a + k = n → wX_linkChild_47 post (nI p) (nI n) (nI (2 ^ n)) f_maxStates f_maxTransitions f_events f_maxSituations f_sealed f_built f_n f_exclusiveStates f_q f_stepAfter f_stepTaken f_stepExited f_stepEntered f_situation0 f_place1 f_found (k + 1) (nI a) a_parent (zn_A kn) (zn_A ini) a_entryAction a_exitAction a_depth (zn_A an) (zn_A (za_ds ds A n a)) a_children a_source a_eventOf a_target a_mode a_guard a_action a_domain a_order a_log a_logLength a_situations a_stepsTo a_nextPlace a_takenAt a_exitedAt a_enteredAt := by
  intro k
  have vip : vp_in (nI p) 12 := vp_in_nI (by omega) (by decide)
  induction k with
  | zero =>
    intro a ha
    have ha' : a = n := by omega
    subst ha'
    have ev1 : upd (zn_A ini) (nI p).toNatClampNeg (nI a) = zn_A (zn_u ini p a) := by rw [nI_clamp (by omega), zn_upd]
    refine br_t (nI_le (by omega) (by omega)) (And.intro vip (ek_if (zn_req (v := 0) (by omega) hkb (by decide)) (fun h1 => ?_) (fun h1 => ?_)))
    · refine And.intro vip (ek_if (zn_req (v := 0) (by omega) hib (by decide)) (fun h2 => ?_) (fun h2 => ?_))
      · exact And.intro vip (nm_r ev1 (K1 h1 h2))
      · exact K2 (fun z => h2 z.2)
    · exact K2 (fun z => h1 z.1)
  | succ k ih =>
    intro a ha
    have h := ih (a + 1) (by omega)
    have via : vp_in (nI a) 12 := vp_in_nI (by omega) (by decide)
    refine br_f (nI_ge (by omega) (by omega)) (And.intro (vp_in_nI (by omega) (by decide)) ?_)
    rw [zn_rd an (show n < 2 ^ 31 by omega), hA]
    refine ek_if (zw_bit (by omega) (by omega)) (fun hb => ?_) (fun hb => ?_)
    · rw [za_ds_n hb] at h
      exact nm_r (nI_1 a) h
    · have ev1 : upd (zn_A (za_ds ds A n a)) (nI a).toNatClampNeg (zn_A (za_ds ds A n a) (nI a).toNatClampNeg ||| nI (2 ^ n)) = zn_A (za_ds ds A n (a + 1)) := by
        rw [zn_rd _ (by omega), nI_clamp (by omega), zw_or, zn_upd, za_ds_t (zn_bt hb)]
      exact And.intro via (And.intro via (nm_r ev1 (nm_r (nI_1 a) h)))
theorem zx_lk0 {post : SX → Prop} {n p A : Nat} (hn : n < 12) (hp : p < n) (hA : an n = A) (hAl : A < 2 ^ 12) (hkb : kn p < 2 ^ 31) (hib : ini p < 2 ^ 31) (K1 : kn p = 0 → ini p = 0 → post (f_maxStates, f_maxTransitions, f_events, f_maxSituations, f_sealed, f_built, f_n, f_exclusiveStates, f_q, f_stepAfter, f_stepTaken, f_stepExited, f_stepEntered, f_situation0, f_place1, f_found, a_parent, zn_A kn, zn_A (zn_u ini p n), a_entryAction, a_exitAction, a_depth, zn_A an, zn_A (za_ds ds A n n), a_children, a_source, a_eventOf, a_target, a_mode, a_guard, a_action, a_domain, a_order, a_log, a_logLength, a_situations, a_stepsTo, a_nextPlace, a_takenAt, a_exitedAt, a_enteredAt)) (K2 : ¬ (kn p = 0 ∧ ini p = 0) → post (f_maxStates, f_maxTransitions, f_events, f_maxSituations, f_sealed, f_built, f_n, f_exclusiveStates, f_q, f_stepAfter, f_stepTaken, f_stepExited, f_stepEntered, f_situation0, f_place1, f_found, a_parent, zn_A kn, zn_A ini, a_entryAction, a_exitAction, a_depth, zn_A an, zn_A (za_ds ds A n n), a_children, a_source, a_eventOf, a_target, a_mode, a_guard, a_action, a_domain, a_order, a_log, a_logLength, a_situations, a_stepsTo, a_nextPlace, a_takenAt, a_exitedAt, a_enteredAt)) : wX_linkChild_47 post (nI p) (nI n) (nI (2 ^ n)) f_maxStates f_maxTransitions f_events f_maxSituations f_sealed f_built f_n f_exclusiveStates f_q f_stepAfter f_stepTaken f_stepExited f_stepEntered f_situation0 f_place1 f_found (n + 1) 0 a_parent (zn_A kn) (zn_A ini) a_entryAction a_exitAction a_depth (zn_A an) (zn_A ds) a_children a_source a_eventOf a_target a_mode a_guard a_action a_domain a_order a_log a_logLength a_situations a_stepsTo a_nextPlace a_takenAt a_exitedAt a_enteredAt := by
  have h := zx_lk hn hp hA hAl hkb hib K1 K2 n 0 (Nat.zero_add _)
  rw [za_ds_0] at h
  exact h
end ZAS
end
section
section ZAV
/-! the call addState -/
variable {c d : Nat → Nat → Nat} {ms mt ev mx : Nat}
variable {f_stepAfter f_situation0 : Int64} {f_stepTaken f_stepExited f_stepEntered f_place1 f_found : Int32} {a_log a_logLength a_stepsTo a_nextPlace a_takenAt a_exitedAt a_enteredAt : Nat → Int32} {a_situations : Nat → Int64}
variable {g_found : Int32} {a_active a_last a_logs a_logSize a_enabled a_taken a_exited a_by a_before a_here a_next : Nat → Int32}
theorem za_Y {post : Int32 → SY → Prop} {p kd : Nat} (hG : zs_G c ev) (hms : ms ≤ 12) (hn : zs_n c < ms) (hp : p < zs_n c) (hk : kd ≤ 1) (K : ∀ ini, ini = (if c 1 p = 0 ∧ c 2 p = 0 then zn_u (c 2) p (zs_n c) else c 2) → post (nI (zs_n c)) (nI ms, nI mt, nI ev, nI mx, nI 0, nI (zs_n c + 1), nI (zs_q c), g_found, zn_A (zn_u (c 0) (zs_n c) p), zn_A (zn_u (c 1) (zs_n c) kd), zn_A ini, zn_A (zn_u (c 3) (zs_n c) (100 + zs_n c)), zn_A (zn_u (c 4) (zs_n c) (200 + zs_n c)), zn_A (c 5), zn_A (c 6), zn_A (c 7), zn_A (c 8), zn_A (c 9), zn_A (c 10), a_active, a_last, a_logs, a_logSize, a_enabled, a_taken, a_exited, a_by, a_before, a_here, a_next)) : wpY_addState post (nI ms, nI mt, nI ev, nI mx, nI 0, nI (zs_n c), nI (zs_q c), g_found, zn_A (c 0), zn_A (c 1), zn_A (c 2), zn_A (c 3), zn_A (c 4), zn_A (c 5), zn_A (c 6), zn_A (c 7), zn_A (c 8), zn_A (c 9), zn_A (c 10), a_active, a_last, a_logs, a_logSize, a_enabled, a_taken, a_exited, a_by, a_before, a_here, a_next) (nI p) (nI kd) := by
  have vin : vp_in (nI (zs_n c)) 12 := vp_in_nI (by omega) (by decide)
  have vip : vp_in (nI p) 12 := vp_in_nI (by omega) (by decide)
  have ecn : (nI (zs_n c)).toNatClampNeg = zs_n c := nI_clamp (by omega)
  have e1 : upd (zn_A (c 0)) (nI (zs_n c)).toNatClampNeg (nI p) = zn_A (zn_u (c 0) (zs_n c) p) := by rw [ecn, zn_upd]
  have e2 : upd (zn_A (c 1)) (nI (zs_n c)).toNatClampNeg (nI kd) = zn_A (zn_u (c 1) (zs_n c) kd) := by rw [ecn, zn_upd]
  have e3 : upd (zn_A (c 3)) (nI (zs_n c)).toNatClampNeg (100 + nI (zs_n c)) = zn_A (zn_u (c 3) (zs_n c) (100 + zs_n c)) := by
    rw [ecn, show (100 : Int32) + nI (zs_n c) = nI (100 + zs_n c) from nI_add 100 _, zn_upd]
  have e4 : upd (zn_A (c 4)) (nI (zs_n c)).toNatClampNeg (200 + nI (zs_n c)) = zn_A (zn_u (c 4) (zs_n c) (200 + zs_n c)) := by
    rw [ecn, show (200 : Int32) + nI (zs_n c) = nI (200 + zs_n c) from nI_add 200 _, zn_upd]
  have e5 : upd (zn_A (c 2)) (nI p).toNatClampNeg (nI (zs_n c)) = zn_A (zn_u (c 2) p (zs_n c)) := by rw [nI_clamp (by omega), zn_upd]
  have kp : zn_u (c 1) (zs_n c) kd p = c 1 p := zn_un (by omega)
  have kX : zn_A (zn_u (c 1) (zs_n c) kd) (nI p).toNatClampNeg = 0 ↔ c 1 p = 0 := by
    rw [← kp]
    exact zn_req (v := 0) (by omega) (by rw [kp]; exact zs_Gb hG 1 p) (by decide)
  have iX : zn_A (c 2) (nI p).toNatClampNeg = 0 ↔ c 2 p = 0 := zn_req (v := 0) (by omega) (zs_Gb hG 2 p) (by decide)
  refine br_t rfl (br_f (nI_pos (by omega)) (br_f (nI_ge hp (by omega)) (br_f (nI_pos (by omega)) (br_t (nI_le (a := kd) (b := 1) hk (by decide)) (br_f (fun z => ?_) ?_)))))
  · rw [nI_eq (by omega) (by omega)] at z
    omega
  · refine And.intro vin (nm_r e1 (And.intro vin (nm_r e2 (And.intro vin (nm_r e3 (And.intro vin (nm_r e4 (And.intro vip ?_))))))))
    refine ek_if kX (fun h1 => ?_) (fun h1 => ?_)
    · refine And.intro vip (ek_if iX (fun h2 => ?_) (fun h2 => ?_))
      · refine And.intro vip (nm_r e5 ?_)
        unfold wY_addState_128
        refine nm_r (nI_1 _) ?_
        rw [nI_pred]
        exact K _ (by rw [if_pos ⟨h1, h2⟩])
      · unfold wY_addState_128
        refine nm_r (nI_1 _) ?_
        rw [nI_pred]
        exact K _ (by rw [if_neg (fun z => h2 z.2)])
    · unfold wY_addState_128
      refine nm_r (nI_1 _) ?_
      rw [nI_pred]
      exact K _ (by rw [if_neg (fun z => h1 z.1)])
theorem za_X {post : Int32 → SX → Prop} {p kd : Nat} (hG : zs_G c ev) (hD : zx_D c d) (hms : ms ≤ 12) (hn : zs_n c < ms) (hp : p < zs_n c) (hk : kd ≤ 1) (K : ∀ ini ex, ini = (if c 1 p = 0 ∧ c 2 p = 0 then zn_u (c 2) p (zs_n c) else c 2) → ex = (if kd = 0 then d 6 0 ||| 2 ^ zs_n c else d 6 0) → post (nI (zs_n c)) (nI ms, nI mt, nI ev, nI mx, zr_s 0, zr_b 0, nI (zs_n c + 1), nI ex, nI (zs_q c), f_stepAfter, f_stepTaken, f_stepExited, f_stepEntered, f_situation0, f_place1, f_found, zn_A (zn_u (c 0) (zs_n c) p), zn_A (zn_u (c 1) (zs_n c) kd), zn_A ini, zn_A (zn_u (c 3) (zs_n c) (100 + zs_n c)), zn_A (zn_u (c 4) (zs_n c) (200 + zs_n c)), zn_A (zn_u (d 0) (zs_n c) (d 0 p + 1)), zn_A (zn_u (d 1) (zs_n c) (d 1 p ||| 2 ^ p)), zn_A (za_ds (d 2) (d 1 p ||| 2 ^ p) (zs_n c) (zs_n c)), zn_A (zn_u (d 3) p (d 3 p ||| 2 ^ zs_n c)), zn_A (c 5), zn_A (c 6), zn_A (c 7), zn_A (c 8), zn_A (c 9), zn_A (c 10), zn_A (d 4), zn_A (d 5), a_log, a_logLength, a_situations, a_stepsTo, a_nextPlace, a_takenAt, a_exitedAt, a_enteredAt)) : wpX_addState post (nI ms, nI mt, nI ev, nI mx, zr_s 0, zr_b 0, nI (zs_n c), nI (d 6 0), nI (zs_q c), f_stepAfter, f_stepTaken, f_stepExited, f_stepEntered, f_situation0, f_place1, f_found, zn_A (c 0), zn_A (c 1), zn_A (c 2), zn_A (c 3), zn_A (c 4), zn_A (d 0), zn_A (d 1), zn_A (d 2), zn_A (d 3), zn_A (c 5), zn_A (c 6), zn_A (c 7), zn_A (c 8), zn_A (c 9), zn_A (c 10), zn_A (d 4), zn_A (d 5), a_log, a_logLength, a_situations, a_stepsTo, a_nextPlace, a_takenAt, a_exitedAt, a_enteredAt) (nI p) (nI kd) := by
  have vin : vp_in (nI (zs_n c)) 12 := vp_in_nI (by omega) (by decide)
  have vip : vp_in (nI p) 12 := vp_in_nI (by omega) (by decide)
  have ecn : (nI (zs_n c)).toNatClampNeg = zs_n c := nI_clamp (by omega)
  have e1 : upd (zn_A (c 0)) (nI (zs_n c)).toNatClampNeg (nI p) = zn_A (zn_u (c 0) (zs_n c) p) := by rw [ecn, zn_upd]
  have e2 : upd (zn_A (c 1)) (nI (zs_n c)).toNatClampNeg (nI kd) = zn_A (zn_u (c 1) (zs_n c) kd) := by rw [ecn, zn_upd]
  have e3 : upd (zn_A (c 3)) (nI (zs_n c)).toNatClampNeg (100 + nI (zs_n c)) = zn_A (zn_u (c 3) (zs_n c) (100 + zs_n c)) := by
    rw [ecn, show (100 : Int32) + nI (zs_n c) = nI (100 + zs_n c) from nI_add 100 _, zn_upd]
  have e4 : upd (zn_A (c 4)) (nI (zs_n c)).toNatClampNeg (200 + nI (zs_n c)) = zn_A (zn_u (c 4) (zs_n c) (200 + zs_n c)) := by
    rw [ecn, show (200 : Int32) + nI (zs_n c) = nI (200 + zs_n c) from nI_add 200 _, zn_upd]
  have e6 : upd (zn_A (d 0)) (nI (zs_n c)).toNatClampNeg (zn_A (d 0) (nI p).toNatClampNeg + 1) = zn_A (zn_u (d 0) (zs_n c) (d 0 p + 1)) := by
    rw [ecn, zn_rd (d 0) (by omega), nI_1, zn_upd]
  have e7 : upd (zn_A (d 1)) (nI (zs_n c)).toNatClampNeg (zn_A (d 1) (nI p).toNatClampNeg ||| ((1 : Int32) <<< (nI p &&& 31))) = zn_A (zn_u (d 1) (zs_n c) (d 1 p ||| 2 ^ p)) := by
    rw [ecn, zn_rd (d 1) (by omega), zw_shl (by omega), zw_or, zn_upd]
  have e8 : upd (zn_A (d 3)) (nI p).toNatClampNeg (zn_A (d 3) (nI p).toNatClampNeg ||| nI (2 ^ zs_n c)) = zn_A (zn_u (d 3) p (d 3 p ||| 2 ^ zs_n c)) := by
    rw [zn_rd (d 3) (by omega), nI_clamp (by omega), zw_or, zn_upd]
  have kp : zn_u (c 1) (zs_n c) kd p = c 1 p := zn_un (by omega)
  have hA : d 1 p ||| 2 ^ p < 2 ^ 12 := by
    rw [zx_D1 hD hp]
    exact Nat.or_lt_two_pow (zn_mk_lt _ _) (zs_2p (by omega))
  have hlk : ∀ ex, ex = (if kd = 0 then d 6 0 ||| 2 ^ zs_n c else d 6 0) → wX_addState_109 post (nI p) (nI (zs_n c)) (nI ms) (nI mt) (nI ev) (nI mx) (zr_s 0) (zr_b 0) (nI (zs_n c + 1)) (nI ex) (nI (zs_q c)) f_stepAfter f_stepTaken f_stepExited f_stepEntered f_situation0 f_place1 f_found (zn_A (zn_u (c 0) (zs_n c) p)) (zn_A (zn_u (c 1) (zs_n c) kd)) (zn_A (c 2)) (zn_A (zn_u (c 3) (zs_n c) (100 + zs_n c))) (zn_A (zn_u (c 4) (zs_n c) (200 + zs_n c))) (zn_A (d 0)) (zn_A (d 1)) (zn_A (d 2)) (zn_A (d 3)) (zn_A (c 5)) (zn_A (c 6)) (zn_A (c 7)) (zn_A (c 8)) (zn_A (c 9)) (zn_A (c 10)) (zn_A (d 4)) (zn_A (d 5)) a_log a_logLength a_situations a_stepsTo a_nextPlace a_takenAt a_exitedAt a_enteredAt := by
    intro ex hex
    unfold wX_addState_109
    refine nm_r (zw_shl (by omega)) (And.intro vip (And.intro vin (nm_r e6 (And.intro vip (And.intro vin (nm_r e7 (And.intro vip (And.intro vip (nm_r e8 ⟨zs_n c + 1, ?_⟩)))))))))
    refine zx_lk0 (A := d 1 p ||| 2 ^ p) (by omega) hp zn_us hA (by rw [kp]; exact zs_Gb hG 1 p) (zs_Gb hG 2 p) (fun h1 h2 => ?_) (fun h1 => ?_)
    · rw [kp] at h1
      exact K _ ex (by rw [if_pos ⟨h1, h2⟩]) hex
    · rw [kp] at h1
      exact K _ ex (by rw [if_neg h1]) hex
  refine br_t rfl ?_
  refine zr_isy (ph := 0) (by omega) hp (br_f (by decide) (br_f (nI_pos (by omega)) (br_t (nI_le (a := kd) (b := 1) hk (by decide)) (br_t (nI_lt hn (by omega)) ?_))))
  refine nm_r (nI_1 _) (And.intro vin (nm_r e1 (And.intro vin (nm_r e2 (And.intro vin (nm_r e3 (And.intro vin (nm_r e4 ?_))))))))
  refine ek_if (zn_e0 (by omega)) (fun h0 => ?_) (fun h0 => ?_)
  · have e9 : nI (d 6 0) ||| ((1 : Int32) <<< (nI (zs_n c) &&& 31)) = nI (d 6 0 ||| 2 ^ zs_n c) := by rw [zw_shl (by omega), zw_or]
    exact nm_r e9 (hlk _ (by rw [if_pos h0]))
  · exact hlk _ (by rw [if_neg h0])
end ZAV
section ZAW
theorem i_vc_addState {k : Nat} {u : SX} {v : SY} (I : i_Rel k u v) (hk : k + 5 ≤ 2564) (v1 : Int32) (v2 : Int32) : wpX_addState (fun r u' => wpY_addState (fun r' v' => r' = r ∧ i_Rel (k + 5) u' v') v v1 v2) u v1 v2 := by
  refine zr_el (P := fun u v => wpX_addState (fun r u' => wpY_addState (fun r' v' => r' = r ∧ i_Rel (k + 5) u' v') v v1 v2) u v1 v2) I ?_
  intro c d ms mt ev mx ph f_stepAfter f_stepTaken f_stepExited f_stepEntered f_situation0 f_place1 f_found g_found a_log a_logLength a_situations a_stepsTo a_nextPlace a_takenAt a_exitedAt a_enteredAt a_active a_last a_logs a_logSize a_enabled a_taken a_exited a_by a_before a_here a_next hC hL hP
  have hR : i_Rel (k + 5) (nI ms, nI mt, nI ev, nI mx, zr_s ph, zr_b ph, nI (zs_n c), nI (d 6 0), nI (zs_q c), f_stepAfter, f_stepTaken, f_stepExited, f_stepEntered, f_situation0, f_place1, f_found, zn_A (c 0), zn_A (c 1), zn_A (c 2), zn_A (c 3), zn_A (c 4), zn_A (d 0), zn_A (d 1), zn_A (d 2), zn_A (d 3), zn_A (c 5), zn_A (c 6), zn_A (c 7), zn_A (c 8), zn_A (c 9), zn_A (c 10), zn_A (d 4), zn_A (d 5), a_log, a_logLength, a_situations, a_stepsTo, a_nextPlace, a_takenAt, a_exitedAt, a_enteredAt) (nI ms, nI mt, nI ev, nI mx, nI ph, nI (zs_n c), nI (zs_q c), g_found, zn_A (c 0), zn_A (c 1), zn_A (c 2), zn_A (c 3), zn_A (c 4), zn_A (c 5), zn_A (c 6), zn_A (c 7), zn_A (c 8), zn_A (c 9), zn_A (c 10), a_active, a_last, a_logs, a_logSize, a_enabled, a_taken, a_exited, a_by, a_before, a_here, a_next) := zr_in hC hL hP
  have hG := hC.1
  have hn := zs_Gn hG
  have hp' : ph = 0 ∨ ph = 1 ∨ ph = 2 := by have := hP.1; omega
  rcases hp' with rfl | rfl | rfl
  · rcases pk_ix v1 (n := zs_n c) (by omega) with h | h | ⟨p, hp, rfl⟩
    · exact br_t rfl (zr_isn (ph := 0) h (br_t rfl (br_t rfl (br_t h ⟨rfl, hR⟩))))
    · exact br_t rfl (zr_isb (ph := 0) hn.2.1 h (br_t rfl (br_t rfl (br_f (zr_nn (by omega) h) (br_t h ⟨rfl, hR⟩)))))
    · have g1 := nI_pos (n := p) (by omega)
      have g2 := nI_ge hp (show zs_n c < 2 ^ 31 by omega)
      by_cases k1 : v2 < 0
      · exact br_t rfl (zr_isy (ph := 0) hn.2.1 hp (br_f (by decide) (br_t k1 (br_t rfl (br_f g1 (br_f g2 (br_t k1 ⟨rfl, hR⟩)))))))
      · by_cases k2 : v2 ≤ 1
        · obtain ⟨kd, hkd, rfl⟩ := nI_of2 (M := 1) (n := 1) (by decide) k1 k2
          by_cases k3 : zs_n c < ms
          · have h12 : zs_n c < 12 := by have := hC.2.2.2.1; omega
            refine za_X hG hC.2.1 hC.2.2.2.1 k3 hp hkd (fun ini ex hi he => ?_)
            refine za_Y hG hC.2.2.2.1 k3 hp hkd (fun ini' hi' => ?_)
            have ei : ini = ini' := by rw [hi, hi']
            subst ei
            refine ⟨rfl, zr_in (ph := 0) (c := za_c c p kd ini) (d := za_d c d p ex) ⟨za_G hG h12 hp hkd hi, za_D hG hC.2.1 h12 hp hkd he, ?_, hC.2.2.2⟩ hL zr_P0⟩
            show zs_n c + 1 ≤ ms
            omega
          · have hms : zs_n c = ms := by have := hC.2.2.1; omega
            refine br_t rfl (zr_isy (ph := 0) hn.2.1 hp (br_f (by decide) (br_f k1 (br_t k2 (br_f (nI_nlt (by omega) (by omega)) ?_)))))
            exact br_t rfl (br_f g1 (br_f g2 (br_f k1 (br_t k2 (br_t (congrArg nI hms) ⟨rfl, hR⟩)))))
        · exact br_t rfl (zr_isy (ph := 0) hn.2.1 hp (br_f (by decide) (br_f k1 (br_f k2 (br_t rfl (br_f g1 (br_f g2 (br_f k1 (br_f k2 ⟨rfl, hR⟩)))))))))
  · exact br_f (by decide) (br_f (by decide) ⟨rfl, hR⟩)
  · exact br_f (by decide) (br_f (by decide) ⟨rfl, hR⟩)
end ZAW
end
section
section ZAT
/-! a transition added: the chart and the derived tables -/
def zt_c (c : Nat → Nat → Nat) (sr e tg md : Nat) : Nat → Nat → Nat := fun i => if i = 5 then zn_u (c 5) (zs_q c) sr else if i = 6 then zn_u (c 6) (zs_q c) e else if i = 7 then zn_u (c 7) (zs_q c) tg else if i = 8 then zn_u (c 8) (zs_q c) md else if i = 10 then zn_u (c 10) (zs_q c) (300 + zs_q c) else if i = 12 then (fun _ => zs_q c + 1) else c i
/-- the order with the places from k on moved up -/
def zt_o (ord : Nat → Nat) (q k : Nat) : Nat → Nat := fun x => if k < x ∧ x ≤ q then ord (x - 1) else ord x
def zt_i (ord : Nat → Nat) (q k : Nat) : Nat → Nat := zn_u (zt_o ord q k) k q
def zt_d (c d : Nat → Nat → Nat) (sr tg k : Nat) : Nat → Nat → Nat := fun i => if i = 4 then zn_u (d 4) (zs_q c) (zc_DM (c 0) (c 1) sr tg) else if i = 5 then zt_i (d 5) (zs_q c) k else d i
theorem zt_o_q (ord : Nat → Nat) (q : Nat) : zt_o ord q q = ord := by
  funext x
  exact if_neg (by omega)
theorem zt_o_s (ord : Nat → Nat) {q k : Nat} (hk : k + 1 ≤ q) : zn_u (zt_o ord q (k + 1)) (k + 1) (ord k) = zt_o ord q k := by
  funext x
  unfold zt_o
  by_cases e : x = k + 1
  · rw [e, zn_us, if_pos (by omega), Nat.add_sub_cancel]
  · rw [zn_un e]
    by_cases h : k < x ∧ x ≤ q
    · rw [if_pos h, if_pos (by omega)]
    · rw [if_neg h, if_neg (by omega)]
theorem zt_o_lo (ord : Nat → Nat) {q k x : Nat} (h : x ≤ k) : zt_o ord q k x = ord x := if_neg (by omega)
theorem zt_i_lo {ord : Nat → Nat} {q k x : Nat} (h : x < k) : zt_i ord q k x = ord x := by
  unfold zt_i
  rw [zn_un (by omega), zt_o_lo ord (by omega)]
theorem zt_i_at {ord : Nat → Nat} {q k : Nat} : zt_i ord q k k = q := zn_us
theorem zt_i_hi {ord : Nat → Nat} {q k x : Nat} (h : k < x) (hx : x ≤ q) : zt_i ord q k x = ord (x - 1) := by
  unfold zt_i
  rw [zn_un (by omega)]
  exact if_pos ⟨h, hx⟩
variable {c d : Nat → Nat → Nat} {ev sr e tg md : Nat}
theorem zt_G (hG : zs_G c ev) (hq : zs_q c < 16) (h5 : sr < zs_n c) (h6 : e < ev) (h70 : 0 < tg) (h7 : tg < zs_n c) (h8 : md ≤ 2) : zs_G (zt_c c sr e tg md) ev := by
  obtain ⟨g1, g2, g3, g4, g5, g6, g7, g8, g9⟩ := hG
  refine ⟨⟨g1.1, g1.2.1, by show zs_q c + 1 ≤ 16; omega, g1.2.2.2⟩, g2, g3, g4, g5, g6, fun t ht => ?_, fun t ht => ?_, fun i j => ?_⟩
  · have ht' : t < zs_q c + 1 := ht
    show zn_u (c 5) (zs_q c) sr t < zs_n c ∧ zn_u (c 6) (zs_q c) e t < ev ∧ 0 < zn_u (c 7) (zs_q c) tg t ∧ zn_u (c 7) (zs_q c) tg t < zs_n c ∧ zn_u (c 8) (zs_q c) md t ≤ 2 ∧ (c 9 t = 0 ∨ (2 ≤ c 9 t ∧ c 9 t ≤ 2 * zs_n c + 1))
    by_cases e1 : t = zs_q c
    · rw [e1, zn_us, zn_us, zn_us, zn_us]
      exact ⟨h5, h6, h70, h7, h8, Or.inl (g8 _ (Nat.le_refl _))⟩
    · rw [zn_un e1, zn_un e1, zn_un e1, zn_un e1]
      exact g7 t (by omega)
  · have ht' : zs_q c + 1 ≤ t := ht
    exact g8 t (by omega)
  · have hu : ∀ (f : Nat → Nat) (v : Nat), (∀ y, f y < 2 ^ 31) → v < 2 ^ 31 → zn_u f (zs_q c) v j < 2 ^ 31 := by
      intro f v hf hv
      by_cases e1 : j = zs_q c
      · rw [e1, zn_us]; exact hv
      · rw [zn_un e1]; exact hf j
    unfold zt_c
    split
    · exact hu _ _ (g9 5) (by omega)
    · split
      · exact hu _ _ (g9 6) (by omega)
      · split
        · exact hu _ _ (g9 7) (by omega)
        · split
          · exact hu _ _ (g9 8) (by omega)
          · split
            · exact hu _ _ (g9 10) (by omega)
            · split
              · show zs_q c + 1 < 2 ^ 31; omega
              · exact g9 i j
theorem zt_BF {u t : Nat} (hu : u < zs_q c) (ht : t < zs_q c) : zs_BF (zt_c c sr e tg md) u t = zs_BF c u t := by
  unfold zs_BF
  show (decide (zc_DP (c 0) (zn_u (c 5) (zs_q c) sr t) < zc_DP (c 0) (zn_u (c 5) (zs_q c) sr u)) || (decide (zc_DP (c 0) (zn_u (c 5) (zs_q c) sr u) = zc_DP (c 0) (zn_u (c 5) (zs_q c) sr t)) && decide (u < t))) = _
  rw [zn_un (show t ≠ zs_q c by omega), zn_un (show u ≠ zs_q c by omega)]
theorem zt_BFq {u : Nat} (hu : u < zs_q c) (h : zc_DP (c 0) sr ≤ zc_DP (c 0) (c 5 u)) : zs_BF (zt_c c sr e tg md) u (zs_q c) = true := by
  apply zs_BF_t.mpr
  show zc_DP (c 0) (zn_u (c 5) (zs_q c) sr (zs_q c)) < zc_DP (c 0) (zn_u (c 5) (zs_q c) sr u) ∨ _
  show _ ∨ (zc_DP (c 0) (zn_u (c 5) (zs_q c) sr u) = zc_DP (c 0) (zn_u (c 5) (zs_q c) sr (zs_q c)) ∧ u < zs_q c)
  rw [zn_us, zn_un (show u ≠ zs_q c by omega)]
  omega
theorem zt_BFr {u : Nat} (hu : u < zs_q c) (h : zc_DP (c 0) (c 5 u) < zc_DP (c 0) sr) : zs_BF (zt_c c sr e tg md) (zs_q c) u = true := by
  apply zs_BF_t.mpr
  left
  show zc_DP (c 0) (zn_u (c 5) (zs_q c) sr u) < zc_DP (c 0) (zn_u (c 5) (zs_q c) sr (zs_q c))
  rw [zn_us, zn_un (show u ≠ zs_q c by omega)]
  exact h
theorem zt_D (hG : zs_G c ev) (hD : zx_D c d) (h5 : sr < zs_n c) {k : Nat} (hk : k ≤ zs_q c) (hlo : ∀ j, k ≤ j → j < zs_q c → zc_DP (c 0) (c 5 (d 5 j)) < zc_DP (c 0) sr) (hhi : k = 0 ∨ zc_DP (c 0) sr ≤ zc_DP (c 0) (c 5 (d 5 (k - 1)))) : zx_D (zt_c c sr e tg md) (zt_d c d sr tg k) := by
  obtain ⟨q1, q2, q3, q4, q5, q6, q7⟩ := hD
  obtain ⟨o1, o2, o3⟩ := q6
  have hge : ∀ i, i < k → zc_DP (c 0) sr ≤ zc_DP (c 0) (c 5 (d 5 i)) := by
    intro i hi
    rcases hhi with h | h
    · omega
    · by_cases e1 : i = k - 1
      · rw [e1]; exact h
      · have := zs_BF_t.mp (o2 i (k - 1) (by omega) (by omega))
        omega
  refine ⟨q1, q2, q3, q4, fun t ht => ?_, ⟨fun i hi => ?_, fun i j hij hj => ?_, fun t ht => ?_⟩, q7⟩
  · have ht' : t < zs_q c + 1 := ht
    show zn_u (d 4) (zs_q c) (zc_DM (c 0) (c 1) sr tg) t = zc_DM (c 0) (c 1) (zn_u (c 5) (zs_q c) sr t) (zn_u (c 7) (zs_q c) tg t)
    by_cases e1 : t = zs_q c
    · rw [e1, zn_us, zn_us, zn_us]
    · rw [zn_un e1, zn_un e1, zn_un e1]; exact q5 t (by omega)
  · have hi' : i < zs_q c + 1 := hi
    show zt_i (d 5) (zs_q c) k i < zs_q c + 1
    rcases Nat.lt_trichotomy i k with h | h | h
    · rw [zt_i_lo h]; have := o1 i (by omega); omega
    · rw [h, zt_i_at]; omega
    · rw [zt_i_hi h (by omega)]; have := o1 (i - 1) (by omega); omega
  · have hj' : j < zs_q c + 1 := hj
    show zs_BF (zt_c c sr e tg md) (zt_i (d 5) (zs_q c) k i) (zt_i (d 5) (zs_q c) k j) = true
    rcases Nat.lt_trichotomy i k with h | h | h
    · rw [zt_i_lo h]
      rcases Nat.lt_trichotomy j k with h2 | h2 | h2
      · rw [zt_i_lo h2, zt_BF (o1 i (by omega)) (o1 j (by omega))]; exact o2 i j hij (by omega)
      · rw [h2, zt_i_at]; exact zt_BFq (o1 i (by omega)) (hge i h)
      · rw [zt_i_hi h2 (by omega), zt_BF (o1 i (by omega)) (o1 (j - 1) (by omega))]; exact o2 i (j - 1) (by omega) (by omega)
    · rw [h, zt_i_at, zt_i_hi (by omega) (by omega)]
      exact zt_BFr (o1 (j - 1) (by omega)) (hlo (j - 1) (by omega) (by omega))
    · rw [zt_i_hi h (by omega), zt_i_hi (by omega) (by omega), zt_BF (o1 (i - 1) (by omega)) (o1 (j - 1) (by omega))]
      exact o2 (i - 1) (j - 1) (by omega) (by omega)
  · have ht' : t < zs_q c + 1 := ht
    show ∃ i, i < zs_q c + 1 ∧ zt_i (d 5) (zs_q c) k i = t
    by_cases e1 : t = zs_q c
    · exact ⟨k, by omega, by rw [zt_i_at, e1]⟩
    · obtain ⟨i, hi, ei⟩ := o3 t (by omega)
      by_cases h : i < k
      · exact ⟨i, by omega, by rw [zt_i_lo h, ei]⟩
      · exact ⟨i + 1, by omega, by rw [zt_i_hi (by omega) (by omega), Nat.add_sub_cancel, ei]⟩
/-! the component's walks -/
variable {n exm : Nat} {an : Nat → Nat} {f_maxStates f_maxTransitions f_events f_maxSituations f_sealed f_built f_q f_stepTaken f_stepExited f_stepEntered f_place1 f_found : Int32} {f_stepAfter f_situation0 : Int64} {a_parent a_kind a_initial a_entryAction a_exitAction a_depth a_descendants a_children a_source a_eventOf a_target a_mode a_guard a_action a_domain a_order a_log a_logLength a_stepsTo a_nextPlace a_takenAt a_exitedAt a_enteredAt : Nat → Int32} {a_situations : Nat → Int64}
theorem zt_hs {post : Int32 → Prop} {m : Nat} (hm : m < 2 ^ 31) : ∀ k, k < 32 → post (nI (zn_hi (Nat.testBit m) k)) → wX_highestState_7 post (nI m) f_maxStates f_maxTransitions f_events f_maxSituations f_sealed f_built (nI n) (nI exm) f_q f_stepAfter f_stepTaken f_stepExited f_stepEntered f_situation0 f_place1 f_found a_parent a_kind a_initial a_entryAction a_exitAction a_depth (zn_A an) a_descendants a_children a_source a_eventOf a_target a_mode a_guard a_action a_domain a_order a_log a_logLength a_situations a_stepsTo a_nextPlace a_takenAt a_exitedAt a_enteredAt (k + 1) (nI k) := by
  intro k
  induction k with
  | zero => intro _ hp; exact br_t (by decide) hp
  | succ k ih =>
    intro hk hp
    refine br_f (nI_nle (by omega) (by omega)) (ek_if (zw_bit hm hk) (fun h => ?_) (fun h => ?_))
    · rw [zn_hi_n h] at hp
      exact nm_r (pk_m1 k) (ih (by omega) hp)
    · rw [zn_hi_t (zn_bt h)] at hp
      exact hp
theorem zt_fd {post : Int32 → Prop} {sr tg : Nat} (hn0 : 0 < n) (hn : n ≤ 12) (hs : sr < n) (ht : tg < n) (hb : exm < 2 ^ 31) (hp : post (nI (zn_hi (Nat.testBit ((an tg &&& (an sr ||| 2 ^ sr)) &&& exm)) (n - 1)))) : wpX_findDomain post (f_maxStates, f_maxTransitions, f_events, f_maxSituations, f_sealed, f_built, nI n, nI exm, f_q, f_stepAfter, f_stepTaken, f_stepExited, f_stepEntered, f_situation0, f_place1, f_found, a_parent, a_kind, a_initial, a_entryAction, a_exitAction, a_depth, zn_A an, a_descendants, a_children, a_source, a_eventOf, a_target, a_mode, a_guard, a_action, a_domain, a_order, a_log, a_logLength, a_situations, a_stepsTo, a_nextPlace, a_takenAt, a_exitedAt, a_enteredAt) (nI sr) (nI tg) := by
  have e3 : zn_A an (nI tg).toNatClampNeg &&& (zn_A an (nI sr).toNatClampNeg ||| ((1 : Int32) <<< (nI sr &&& 31))) = nI (an tg &&& (an sr ||| 2 ^ sr)) := by
    rw [zn_rd an (by omega), zn_rd an (by omega), zw_shl (by omega), zw_or, nx_and]
  have e4 : nI n - 1 = nI (n - 1) := pk_sub (b := 1) (by omega)
  refine And.intro (vp_in_nI (by omega) (by decide)) (And.intro (vp_in_nI (by omega) (by decide)) (nm_r e3 ?_))
  rw [nx_and]
  refine nm_r e4 ⟨(n - 1) + 1, ?_⟩
  refine zt_hs ?_ (n - 1) (by omega) hp
  exact Nat.lt_of_le_of_lt Nat.and_le_right hb
variable {dp so : Nat → Nat} {f_maxStates f_maxTransitions f_events f_maxSituations f_sealed f_built f_n f_exclusiveStates f_q f_stepTaken f_stepExited f_stepEntered f_place1 f_found : Int32} {f_stepAfter f_situation0 : Int64} {a_parent a_kind a_initial a_entryAction a_exitAction a_ancestors a_descendants a_children a_eventOf a_target a_mode a_guard a_action a_domain a_order a_log a_logLength a_stepsTo a_nextPlace a_takenAt a_exitedAt a_enteredAt : Nat → Int32} {a_situations : Nat → Int64}
theorem zt_ins {post : SX → Prop} {q own : Nat} {ord : Nat → Nat} (hq : q < 16) (ho : ∀ i, i < q → ord i < 16) (hs : ∀ i, i < q → so (ord i) < 12) (hdp : ∀ i, i < q → dp (so (ord i)) < 2 ^ 31) (hown : own < 2 ^ 31) (K : ∀ k, k ≤ q → (∀ j, k ≤ j → j < q → dp (so (ord j)) < own) → (k = 0 ∨ own ≤ dp (so (ord (k - 1)))) → post (f_maxStates, f_maxTransitions, f_events, f_maxSituations, f_sealed, f_built, f_n, f_exclusiveStates, f_q, f_stepAfter, f_stepTaken, f_stepExited, f_stepEntered, f_situation0, f_place1, f_found, a_parent, a_kind, a_initial, a_entryAction, a_exitAction, zn_A dp, a_ancestors, a_descendants, a_children, zn_A so, a_eventOf, a_target, a_mode, a_guard, a_action, a_domain, zn_A (zt_i ord q k), a_log, a_logLength, a_situations, a_stepsTo, a_nextPlace, a_takenAt, a_exitedAt, a_enteredAt)) : ∀ k, k ≤ q → (∀ j, k ≤ j → j < q → dp (so (ord j)) < own) → wX_insertByPriority_14 post (nI q) (nI own) f_maxStates f_maxTransitions f_events f_maxSituations f_sealed f_built f_n f_exclusiveStates f_q f_stepAfter f_stepTaken f_stepExited f_stepEntered f_situation0 f_place1 f_found (k + 1) (nI k) a_parent a_kind a_initial a_entryAction a_exitAction (zn_A dp) a_ancestors a_descendants a_children (zn_A so) a_eventOf a_target a_mode a_guard a_action a_domain (zn_A (zt_o ord q k)) a_log a_logLength a_situations a_stepsTo a_nextPlace a_takenAt a_exitedAt a_enteredAt := by
  intro k
  induction k with
  | zero =>
    intro hk h
    have ev1 : upd (zn_A (zt_o ord q 0)) (nI 0).toNatClampNeg (nI q) = zn_A (zt_i ord q 0) := by
      rw [nI_clamp (by decide), zn_upd]
      rfl
    exact br_t (by decide) (And.intro (vp_in_nI (by decide) (by decide)) (nm_r ev1 (K 0 hk h (Or.inl rfl))))
  | succ k ih =>
    intro hk h
    have vik : vp_in (nI k) 16 := vp_in_nI (by omega) (by decide)
    have vik1 : vp_in (nI (k + 1)) 16 := vp_in_nI (by omega) (by decide)
    have hok := ho k (by omega)
    have hsk := hs k (by omega)
    have er : zn_A (zt_o ord q (k + 1)) (nI k).toNatClampNeg = nI (ord k) := by rw [zn_rd _ (by omega), zt_o_lo ord (by omega)]
    refine br_f (nI_nle (by omega) (by omega)) ?_
    rw [nI_pred, er, zn_rd so (show ord k < 2 ^ 31 by omega), zn_rd dp (show so (ord k) < 2 ^ 31 by omega)]
    refine And.intro vik (And.intro (vp_in_nI hok (by decide)) (And.intro (vp_in_nI hsk (by decide)) ?_))
    refine pk_le own (dp (so (ord k))) (fun h2 => ?_) (fun h2 => ?_) rfl rfl hown (hdp k (by omega))
    · have ev1 : upd (zn_A (zt_o ord q (k + 1))) (nI (k + 1)).toNatClampNeg (nI q) = zn_A (zt_i ord q (k + 1)) := by
        rw [nI_clamp (by omega), zn_upd]
        rfl
      exact And.intro vik1 (nm_r ev1 (K (k + 1) hk h (Or.inr (by rw [Nat.add_sub_cancel]; exact h2))))
    · have ev1 : upd (zn_A (zt_o ord q (k + 1))) (nI (k + 1)).toNatClampNeg (nI (ord k)) = zn_A (zt_o ord q k) := by
        rw [nI_clamp (by omega), zn_upd, zt_o_s ord hk]
      refine And.intro vik (And.intro vik1 (nm_r ev1 (nm_r (pk_m1 k) (ih (by omega) (fun j hj hjq => ?_)))))
      by_cases e1 : j = k
      · rw [e1]; exact h2
      · exact h j (by omega) hjq
theorem zt_insP {post : SX → Prop} {q : Nat} {ord : Nat → Nat} (hq : q < 16) (hsq : so q < 12) (ho : ∀ i, i < q → ord i < 16) (hs : ∀ i, i < q → so (ord i) < 12) (hdq : dp (so q) < 2 ^ 31) (hdp : ∀ i, i < q → dp (so (ord i)) < 2 ^ 31) (K : ∀ k, k ≤ q → (∀ j, k ≤ j → j < q → dp (so (ord j)) < dp (so q)) → (k = 0 ∨ dp (so q) ≤ dp (so (ord (k - 1)))) → post (f_maxStates, f_maxTransitions, f_events, f_maxSituations, f_sealed, f_built, f_n, f_exclusiveStates, f_q, f_stepAfter, f_stepTaken, f_stepExited, f_stepEntered, f_situation0, f_place1, f_found, a_parent, a_kind, a_initial, a_entryAction, a_exitAction, zn_A dp, a_ancestors, a_descendants, a_children, zn_A so, a_eventOf, a_target, a_mode, a_guard, a_action, a_domain, zn_A (zt_i ord q k), a_log, a_logLength, a_situations, a_stepsTo, a_nextPlace, a_takenAt, a_exitedAt, a_enteredAt)) : wpX_insertByPriority post (f_maxStates, f_maxTransitions, f_events, f_maxSituations, f_sealed, f_built, f_n, f_exclusiveStates, f_q, f_stepAfter, f_stepTaken, f_stepExited, f_stepEntered, f_situation0, f_place1, f_found, a_parent, a_kind, a_initial, a_entryAction, a_exitAction, zn_A dp, a_ancestors, a_descendants, a_children, zn_A so, a_eventOf, a_target, a_mode, a_guard, a_action, a_domain, zn_A ord, a_log, a_logLength, a_situations, a_stepsTo, a_nextPlace, a_takenAt, a_exitedAt, a_enteredAt) (nI q) := by
  have e1 : zn_A so (nI q).toNatClampNeg = nI (so q) := zn_rd so (by omega)
  refine And.intro (vp_in_nI hq (by decide)) ?_
  rw [e1]
  refine And.intro (vp_in_nI hsq (by decide)) (nm_r (zn_rd dp (by omega)) ⟨q + 1, ?_⟩)
  have h := zt_ins hq ho hs hdp hdq K q (Nat.le_refl _) (fun j h1 h2 => by omega)
  rw [zt_o_q] at h
  exact h
end ZAT
end
section
section ZTV
/-! the call addTransition -/
variable {c d : Nat → Nat → Nat} {ms mt ev mx : Nat}
variable {f_stepAfter f_situation0 : Int64} {f_stepTaken f_stepExited f_stepEntered f_place1 f_found : Int32} {a_log a_logLength a_stepsTo a_nextPlace a_takenAt a_exitedAt a_enteredAt : Nat → Int32} {a_situations : Nat → Int64}
variable {g_found : Int32} {a_active a_last a_logs a_logSize a_enabled a_taken a_exited a_by a_before a_here a_next : Nat → Int32}
theorem zt_dm (hG : zs_G c ev) (hD : zx_D c d) {sr tg : Nat} (hs : sr < zs_n c) (ht : tg < zs_n c) : zn_hi (Nat.testBit ((d 1 tg &&& (d 1 sr ||| 2 ^ sr)) &&& d 6 0)) (zs_n c - 1) = zc_DM (c 0) (c 1) sr tg := by
  have hn := zs_Gn hG
  rw [← zc_DM_n (zs_GP hG) ht]
  apply zn_hi_cg
  intro i h0 hi
  rw [Nat.testBit_and, Nat.testBit_and, Nat.testBit_or, Nat.testBit_two_pow, zx_D1 hD hs, zx_D1 hD ht, zn_mk_in (show i < 12 by omega), zn_mk_in (show i < 12 by omega), hD.2.2.2.2.2.2, zn_mk_in (show i < zs_n c by omega)]
  unfold zc_dq
  have e : decide (sr = i) = decide (i = sr) := by
    by_cases h : sr = i
    · rw [decide_eq_true h, decide_eq_true h.symm]
    · rw [decide_eq_false h, decide_eq_false (fun z => h z.symm)]
  rw [e]
  cases decide (c 1 i = 0) <;> cases zc_AB (c 0) i tg <;> cases zc_AB (c 0) i sr <;> cases decide (i = sr) <;> rfl
theorem zt_Y {post : Int32 → SY → Prop} {sr e tg md : Nat} (hG : zs_G c ev) (hmt : mt ≤ 16) (hq : zs_q c < mt) (h5 : sr < zs_n c) (h6 : e < ev) (h70 : 0 < tg) (h7 : tg < zs_n c) (h8 : md ≤ 2) (K : post (nI (zs_q c)) (nI ms, nI mt, nI ev, nI mx, nI 0, nI (zs_n c), nI (zs_q c + 1), g_found, zn_A (c 0), zn_A (c 1), zn_A (c 2), zn_A (c 3), zn_A (c 4), zn_A (zn_u (c 5) (zs_q c) sr), zn_A (zn_u (c 6) (zs_q c) e), zn_A (zn_u (c 7) (zs_q c) tg), zn_A (zn_u (c 8) (zs_q c) md), zn_A (c 9), zn_A (zn_u (c 10) (zs_q c) (300 + zs_q c)), a_active, a_last, a_logs, a_logSize, a_enabled, a_taken, a_exited, a_by, a_before, a_here, a_next)) : wpY_addTransition post (nI ms, nI mt, nI ev, nI mx, nI 0, nI (zs_n c), nI (zs_q c), g_found, zn_A (c 0), zn_A (c 1), zn_A (c 2), zn_A (c 3), zn_A (c 4), zn_A (c 5), zn_A (c 6), zn_A (c 7), zn_A (c 8), zn_A (c 9), zn_A (c 10), a_active, a_last, a_logs, a_logSize, a_enabled, a_taken, a_exited, a_by, a_before, a_here, a_next) (nI sr) (nI e) (nI tg) (nI md) := by
  have hn := zs_Gn hG
  have vin : vp_in (nI (zs_q c)) 16 := vp_in_nI (by omega) (by decide)
  have ecn : (nI (zs_q c)).toNatClampNeg = zs_q c := nI_clamp (by omega)
  have e1 : upd (zn_A (c 5)) (nI (zs_q c)).toNatClampNeg (nI sr) = zn_A (zn_u (c 5) (zs_q c) sr) := by rw [ecn, zn_upd]
  have e2 : upd (zn_A (c 6)) (nI (zs_q c)).toNatClampNeg (nI e) = zn_A (zn_u (c 6) (zs_q c) e) := by rw [ecn, zn_upd]
  have e3 : upd (zn_A (c 7)) (nI (zs_q c)).toNatClampNeg (nI tg) = zn_A (zn_u (c 7) (zs_q c) tg) := by rw [ecn, zn_upd]
  have e4 : upd (zn_A (c 8)) (nI (zs_q c)).toNatClampNeg (nI md) = zn_A (zn_u (c 8) (zs_q c) md) := by rw [ecn, zn_upd]
  have e5 : upd (zn_A (c 10)) (nI (zs_q c)).toNatClampNeg (300 + nI (zs_q c)) = zn_A (zn_u (c 10) (zs_q c) (300 + zs_q c)) := by
    rw [ecn, show (300 : Int32) + nI (zs_q c) = nI (300 + zs_q c) from nI_add 300 _, zn_upd]
  refine br_t rfl (br_f (nI_pos (by omega)) (br_f (nI_ge h5 (by omega)) (br_f (nI_pos (by omega)) (br_f (nI_ge h6 (by omega)) (br_f (nI_nlt (b := 1) h70 (by omega)) (br_f (nI_ge h7 (by omega)) (br_f (nI_pos (by omega)) (br_t (nI_le (a := md) (b := 2) h8 (by decide)) (br_f (fun z => ?_) ?_)))))))))
  · rw [nI_eq (by omega) (by omega)] at z
    omega
  · refine And.intro vin (nm_r e1 (And.intro vin (nm_r e2 (And.intro vin (nm_r e3 (And.intro vin (nm_r e4 (And.intro vin (nm_r e5 (nm_r (nI_1 _) ?_))))))))))
    rw [nI_pred]
    exact K
theorem zt_X {post : Int32 → SX → Prop} {sr e tg md : Nat} (hG : zs_G c ev) (hD : zx_D c d) (hmt : mt ≤ 16) (hq : zs_q c < mt) (h5 : sr < zs_n c) (h6 : e < ev) (h70 : 0 < tg) (h7 : tg < zs_n c) (h8 : md ≤ 2) (K : ∀ k, k ≤ zs_q c → (∀ j, k ≤ j → j < zs_q c → zc_DP (c 0) (c 5 (d 5 j)) < zc_DP (c 0) sr) → (k = 0 ∨ zc_DP (c 0) sr ≤ zc_DP (c 0) (c 5 (d 5 (k - 1)))) → post (nI (zs_q c)) (nI ms, nI mt, nI ev, nI mx, zr_s 0, zr_b 0, nI (zs_n c), nI (d 6 0), nI (zs_q c + 1), f_stepAfter, f_stepTaken, f_stepExited, f_stepEntered, f_situation0, f_place1, f_found, zn_A (c 0), zn_A (c 1), zn_A (c 2), zn_A (c 3), zn_A (c 4), zn_A (d 0), zn_A (d 1), zn_A (d 2), zn_A (d 3), zn_A (zn_u (c 5) (zs_q c) sr), zn_A (zn_u (c 6) (zs_q c) e), zn_A (zn_u (c 7) (zs_q c) tg), zn_A (zn_u (c 8) (zs_q c) md), zn_A (c 9), zn_A (zn_u (c 10) (zs_q c) (300 + zs_q c)), zn_A (zn_u (d 4) (zs_q c) (zc_DM (c 0) (c 1) sr tg)), zn_A (zt_i (d 5) (zs_q c) k), a_log, a_logLength, a_situations, a_stepsTo, a_nextPlace, a_takenAt, a_exitedAt, a_enteredAt)) : wpX_addTransition post (nI ms, nI mt, nI ev, nI mx, zr_s 0, zr_b 0, nI (zs_n c), nI (d 6 0), nI (zs_q c), f_stepAfter, f_stepTaken, f_stepExited, f_stepEntered, f_situation0, f_place1, f_found, zn_A (c 0), zn_A (c 1), zn_A (c 2), zn_A (c 3), zn_A (c 4), zn_A (d 0), zn_A (d 1), zn_A (d 2), zn_A (d 3), zn_A (c 5), zn_A (c 6), zn_A (c 7), zn_A (c 8), zn_A (c 9), zn_A (c 10), zn_A (d 4), zn_A (d 5), a_log, a_logLength, a_situations, a_stepsTo, a_nextPlace, a_takenAt, a_exitedAt, a_enteredAt) (nI sr) (nI e) (nI tg) (nI md) := by
  have hn := zs_Gn hG
  have vin : vp_in (nI (zs_q c)) 16 := vp_in_nI (by omega) (by decide)
  have ecn : (nI (zs_q c)).toNatClampNeg = zs_q c := nI_clamp (by omega)
  have e1 : upd (zn_A (c 5)) (nI (zs_q c)).toNatClampNeg (nI sr) = zn_A (zn_u (c 5) (zs_q c) sr) := by rw [ecn, zn_upd]
  have e2 : upd (zn_A (c 6)) (nI (zs_q c)).toNatClampNeg (nI e) = zn_A (zn_u (c 6) (zs_q c) e) := by rw [ecn, zn_upd]
  have e3 : upd (zn_A (c 7)) (nI (zs_q c)).toNatClampNeg (nI tg) = zn_A (zn_u (c 7) (zs_q c) tg) := by rw [ecn, zn_upd]
  have e4 : upd (zn_A (c 8)) (nI (zs_q c)).toNatClampNeg (nI md) = zn_A (zn_u (c 8) (zs_q c) md) := by rw [ecn, zn_upd]
  have e5 : upd (zn_A (c 10)) (nI (zs_q c)).toNatClampNeg (300 + nI (zs_q c)) = zn_A (zn_u (c 10) (zs_q c) (300 + zs_q c)) := by
    rw [ecn, show (300 : Int32) + nI (zs_q c) = nI (300 + zs_q c) from nI_add 300 _, zn_upd]
  have e6 : upd (zn_A (d 4)) (nI (zs_q c)).toNatClampNeg (nI (zc_DM (c 0) (c 1) sr tg)) = zn_A (zn_u (d 4) (zs_q c) (zc_DM (c 0) (c 1) sr tg)) := by rw [ecn, zn_upd]
  obtain ⟨o1, o2, o3⟩ := hD.2.2.2.2.2.1
  have hso : ∀ i, i < zs_q c → zn_u (c 5) (zs_q c) sr (d 5 i) = c 5 (d 5 i) := fun i hi => zn_un (by have := o1 i hi; omega)
  have hsq : zn_u (c 5) (zs_q c) sr (zs_q c) = sr := zn_us
  have hdq : ∀ s, s < zs_n c → d 0 s = zc_DP (c 0) s := hD.1
  have hb6 : d 6 0 < 2 ^ 31 := by rw [hD.2.2.2.2.2.2]; exact zn_mk_31 (by omega) _
  refine br_t rfl ?_
  refine zr_isy (ph := 0) hn.2.1 h5 (br_f (by decide) ?_)
  refine zr_iey (ph := 0) hn.2.2.2 h6 (br_f (by decide) (br_f (nI_nlt (b := 1) h70 (by omega)) (br_f (nI_ge h7 (by omega)) (br_f (nI_pos (by omega)) (br_t (nI_le (a := md) (b := 2) h8 (by decide)) (br_t (nI_lt hq (by omega)) ?_))))))
  refine nm_r (nI_1 _) (And.intro vin (nm_r e1 (And.intro vin (nm_r e2 (And.intro vin (nm_r e3 (And.intro vin (nm_r e4 (And.intro vin (nm_r e5 ?_))))))))))
  refine zt_fd (by omega) hn.2.1 h5 h7 hb6 ?_
  rw [zt_dm hG hD h5 h7]
  refine And.intro vin (nm_r e6 ?_)
  refine zt_insP (by omega) (by rw [hsq]; omega) (fun i hi => by have := o1 i hi; omega) (fun i hi => by rw [hso i hi]; have := (zs_Gt hG (o1 i hi)).1; omega) (by rw [hsq, hdq sr h5]; have := zc_DP_le (zs_GP hG) sr h5; omega) (fun i hi => by rw [hso i hi, hdq _ (zs_Gt hG (o1 i hi)).1]; have := zs_dp11 hG (o1 i hi); omega) (fun k hk k1 k2 => ?_)
  · refine K k hk (fun j hj hjq => ?_) ?_
    · have := k1 j hj hjq
      rw [hso j hjq, hsq, hdq _ (zs_Gt hG (o1 j hjq)).1, hdq _ h5] at this
      exact this
    · rcases k2 with z | z
      · exact Or.inl z
      · by_cases hk0 : k = 0
        · exact Or.inl hk0
        · rw [hso (k - 1) (by omega), hsq, hdq _ (zs_Gt hG (o1 (k - 1) (by omega))).1, hdq _ h5] at z
          exact Or.inr z
end ZTV
section ZTW
theorem i_vc_addTransition {k : Nat} {u : SX} {v : SY} (I : i_Rel k u v) (hk : k + 5 ≤ 2564) (v1 : Int32) (v2 : Int32) (v3 : Int32) (v4 : Int32) : wpX_addTransition (fun r u' => wpY_addTransition (fun r' v' => r' = r ∧ i_Rel (k + 5) u' v') v v1 v2 v3 v4) u v1 v2 v3 v4 := by
  refine zr_el (P := fun u v => wpX_addTransition (fun r u' => wpY_addTransition (fun r' v' => r' = r ∧ i_Rel (k + 5) u' v') v v1 v2 v3 v4) u v1 v2 v3 v4) I ?_
  intro c d ms mt ev mx ph f_stepAfter f_stepTaken f_stepExited f_stepEntered f_situation0 f_place1 f_found g_found a_log a_logLength a_situations a_stepsTo a_nextPlace a_takenAt a_exitedAt a_enteredAt a_active a_last a_logs a_logSize a_enabled a_taken a_exited a_by a_before a_here a_next hC hL hP
  have hR : i_Rel (k + 5) (nI ms, nI mt, nI ev, nI mx, zr_s ph, zr_b ph, nI (zs_n c), nI (d 6 0), nI (zs_q c), f_stepAfter, f_stepTaken, f_stepExited, f_stepEntered, f_situation0, f_place1, f_found, zn_A (c 0), zn_A (c 1), zn_A (c 2), zn_A (c 3), zn_A (c 4), zn_A (d 0), zn_A (d 1), zn_A (d 2), zn_A (d 3), zn_A (c 5), zn_A (c 6), zn_A (c 7), zn_A (c 8), zn_A (c 9), zn_A (c 10), zn_A (d 4), zn_A (d 5), a_log, a_logLength, a_situations, a_stepsTo, a_nextPlace, a_takenAt, a_exitedAt, a_enteredAt) (nI ms, nI mt, nI ev, nI mx, nI ph, nI (zs_n c), nI (zs_q c), g_found, zn_A (c 0), zn_A (c 1), zn_A (c 2), zn_A (c 3), zn_A (c 4), zn_A (c 5), zn_A (c 6), zn_A (c 7), zn_A (c 8), zn_A (c 9), zn_A (c 10), a_active, a_last, a_logs, a_logSize, a_enabled, a_taken, a_exited, a_by, a_before, a_here, a_next) := zr_in hC hL hP
  have hG := hC.1
  have hn := zs_Gn hG
  have hp' : ph = 0 ∨ ph = 1 ∨ ph = 2 := by have := hP.1; omega
  rcases hp' with rfl | rfl | rfl
  · rcases pk_ix v1 (n := zs_n c) (by omega) with h | h | ⟨sr, hs, rfl⟩
    · exact br_t rfl (zr_isn (ph := 0) h (br_t rfl (br_t rfl (br_t h ⟨rfl, hR⟩))))
    · exact br_t rfl (zr_isb (ph := 0) hn.2.1 h (br_t rfl (br_t rfl (br_f (zr_nn (by omega) h) (br_t h ⟨rfl, hR⟩)))))
    · have g1 := nI_pos (n := sr) (by omega)
      have g2 := nI_ge hs (show zs_n c < 2 ^ 31 by omega)
      rcases pk_ix v2 (n := ev) (by omega) with h | h | ⟨e, he, rfl⟩
      · exact br_t rfl (zr_isy (ph := 0) hn.2.1 hs (br_f (by decide) (zr_ien (ph := 0) h (br_t rfl (br_t rfl (br_f g1 (br_f g2 (br_t h ⟨rfl, hR⟩))))))))
      · exact br_t rfl (zr_isy (ph := 0) hn.2.1 hs (br_f (by decide) (zr_ieb (ph := 0) hn.2.2.2 h (br_t rfl (br_t rfl (br_f g1 (br_f g2 (br_f (zr_nn (by omega) h) (br_t h ⟨rfl, hR⟩)))))))))
      · have g3 := nI_pos (n := e) (by omega)
        have g4 := nI_ge he (show ev < 2 ^ 31 by omega)
        by_cases t1 : v3 < 1
        · exact br_t rfl (zr_isy (ph := 0) hn.2.1 hs (br_f (by decide) (zr_iey (ph := 0) hn.2.2.2 he (br_f (by decide) (br_t t1 (br_t rfl (br_f g1 (br_f g2 (br_f g3 (br_f g4 (br_t t1 ⟨rfl, hR⟩)))))))))))
        · by_cases t2 : nI (zs_n c) ≤ v3
          · exact br_t rfl (zr_isy (ph := 0) hn.2.1 hs (br_f (by decide) (zr_iey (ph := 0) hn.2.2.2 he (br_f (by decide) (br_f t1 (br_t t2 (br_t rfl (br_f g1 (br_f g2 (br_f g3 (br_f g4 (br_f t1 (br_t t2 ⟨rfl, hR⟩)))))))))))))
          · by_cases m1 : v4 < 0
            · exact br_t rfl (zr_isy (ph := 0) hn.2.1 hs (br_f (by decide) (zr_iey (ph := 0) hn.2.2.2 he (br_f (by decide) (br_f t1 (br_f t2 (br_t m1 (br_t rfl (br_f g1 (br_f g2 (br_f g3 (br_f g4 (br_f t1 (br_f t2 (br_t m1 ⟨rfl, hR⟩)))))))))))))))
            · by_cases m2 : v4 ≤ 2
              · obtain ⟨md, hmd, rfl⟩ := nI_of2 (M := 2) (n := 2) (by decide) m1 m2
                have t0 : ¬ v3 < 0 := fun z => t1 (zr_neg1 z)
                obtain ⟨tg, htg31, rfl⟩ := nI_of t0
                have ht7 : tg < zs_n c := by
                  rcases Nat.lt_or_ge tg (zs_n c) with z | z
                  · exact z
                  · exact absurd (nI_le z htg31) t2
                have ht0 : 0 < tg := by
                  rcases Nat.eq_zero_or_pos tg with z | z
                  · rw [z] at t1; exact absurd (by decide) t1
                  · exact z
                by_cases hq : zs_q c < mt
                · have hmt := hC.2.2.2.2.2.1
                  refine zt_X hG hC.2.1 hmt hq hs he ht0 ht7 hmd (fun k' hk' k1 k2 => ?_)
                  refine zt_Y hG hmt hq hs he ht0 ht7 hmd ⟨rfl, ?_⟩
                  refine zr_in (ph := 0) (c := zt_c c sr e tg md) (d := zt_d c d sr tg k') ⟨zt_G hG (by omega) hs he ht0 ht7 hmd, zt_D hG hC.2.1 hs hk' k1 k2, hC.2.2.1, hC.2.2.2.1, ?_, hC.2.2.2.2.2⟩ hL zr_P0
                  show zs_q c + 1 ≤ mt
                  omega
                · have hmq : zs_q c = mt := by have := hC.2.2.2.2.1; omega
                  exact br_t rfl (zr_isy (ph := 0) hn.2.1 hs (br_f (by decide) (zr_iey (ph := 0) hn.2.2.2 he (br_f (by decide) (br_f t1 (br_f t2 (br_f m1 (br_t m2 (br_f (nI_nlt (by omega) (by omega)) (br_t rfl (br_f g1 (br_f g2 (br_f g3 (br_f g4 (br_f t1 (br_f t2 (br_f m1 (br_t m2 (br_t (congrArg nI hmq) ⟨rfl, hR⟩)))))))))))))))))))
              · exact br_t rfl (zr_isy (ph := 0) hn.2.1 hs (br_f (by decide) (zr_iey (ph := 0) hn.2.2.2 he (br_f (by decide) (br_f t1 (br_f t2 (br_f m1 (br_f m2 (br_t rfl (br_f g1 (br_f g2 (br_f g3 (br_f g4 (br_f t1 (br_f t2 (br_f m1 (br_f m2 ⟨rfl, hR⟩)))))))))))))))))
  · exact br_f (by decide) (br_f (by decide) ⟨rfl, hR⟩)
  · exact br_f (by decide) (br_f (by decide) ⟨rfl, hR⟩)
end ZTW
end
section
section ZIN
/-! the constructors -/
def zi_c : Nat → Nat → Nat := fun i => if i = 3 then zn_u (fun _ => 0) 0 100 else if i = 4 then zn_u (fun _ => 0) 0 200 else if i = 11 then (fun _ => 1) else (fun _ => 0)
def zi_d : Nat → Nat → Nat := fun i => if i = 6 then (fun _ => 1) else (fun _ => 0)
theorem zi_G {ev : Nat} (he : ev ≤ 4) : zs_G zi_c ev := by
  have hn : zs_n zi_c = 1 := rfl
  have hq : zs_q zi_c = 0 := rfl
  refine ⟨⟨by rw [hn]; exact Nat.le_refl 1, by rw [hn]; decide, by rw [hq]; decide, he⟩, fun s h0 hs => ?_, ⟨rfl, fun s hs => ?_⟩, fun s hs h => ?_, fun x h0 hx => ?_, fun s hs => rfl, fun t ht => ?_, fun t ht => rfl, fun i j => ?_⟩
  · rw [hn] at hs; omega
  · show 0 ≤ 1; decide
  · exact absurd rfl h
  · rw [hn] at hx; omega
  · rw [hq] at ht; omega
  · unfold zi_c
    split
    · by_cases e : j = 0
      · rw [e, zn_us]; decide
      · rw [zn_un e]; decide
    · split
      · by_cases e : j = 0
        · rw [e, zn_us]; decide
        · rw [zn_un e]; decide
      · split
        · show 1 < 2 ^ 31; decide
        · show 0 < 2 ^ 31; decide
theorem zi_D : zx_D zi_c zi_d := by
  have hn : zs_n zi_c = 1 := rfl
  have hq : zs_q zi_c = 0 := rfl
  refine ⟨fun s hs => ?_, fun s hs => ?_, fun a ha => ?_, fun a ha => ?_, fun t ht => ?_, ⟨fun i hi => ?_, fun i j hij hj => ?_, fun t ht => ?_⟩, ?_⟩
  · rw [hn] at hs
    have e : s = 0 := by omega
    rw [e, zc_DP_0]; rfl
  · rw [hn] at hs
    have e : s = 0 := by omega
    rw [e]
    exact (zn_mk_0 (fun i _ => zc_AB_0 _ i)).symm
  · rw [hn]
    refine (zn_mk_0 (fun i hi => ?_)).symm
    have e : i = 0 := by omega
    rw [e]; exact zc_AB_0 _ a
  · rw [hn]
    refine (zn_mk_0 (fun i hi => ?_)).symm
    have e : i = 0 := by omega
    rw [e]; rfl
  · rw [hq] at ht; omega
  · rw [hq] at hi; omega
  · rw [hq] at hj; omega
  · rw [hq] at ht; omega
  · rfl
theorem zi_cl (x : Int32) (lo hi : Nat) (h : lo ≤ hi) (hh : hi < 2 ^ 31) : ∃ m, lo ≤ m ∧ m ≤ hi ∧ (∀ (post : Int32 → Prop) (u : SX), post (nI m) → wpX_clamp post u x (nI lo) (nI hi)) ∧ (∀ (post : Int32 → Prop) (v : SY), post (nI m) → wpY_clamp post v x (nI lo) (nI hi)) := by
  by_cases h1 : nI lo ≤ x
  · by_cases h2 : x ≤ nI hi
    · have h0 := zr_nn (show lo < 2 ^ 31 by omega) h1
      obtain ⟨m, hm, rfl⟩ := nI_of2 (M := nI hi) (n := hi) (nI_toInt hh) h0 h2
      exact ⟨m, (nI_leI (by omega) (by omega)).mp h1, hm, fun _ u hp => by obtain ⟨u1, u2, u3, u4, u5, u6, u7, u8, u9, u10, u11, u12, u13, u14, u15, u16, u17, u18, u19, u20, u21, u22, u23, u24, u25, u26, u27, u28, u29, u30, u31, u32, u33, u34, u35, u36, u37, u38, u39, u40, u41⟩ := u; exact br_t h1 (br_t h2 hp), fun _ w hp => by obtain ⟨w1, w2, w3, w4, w5, w6, w7, w8, w9, w10, w11, w12, w13, w14, w15, w16, w17, w18, w19, w20, w21, w22, w23, w24, w25, w26, w27, w28, w29, w30⟩ := w; exact br_t h1 (br_t h2 hp)⟩
    · exact ⟨hi, h, Nat.le_refl _, fun _ u hp => by obtain ⟨u1, u2, u3, u4, u5, u6, u7, u8, u9, u10, u11, u12, u13, u14, u15, u16, u17, u18, u19, u20, u21, u22, u23, u24, u25, u26, u27, u28, u29, u30, u31, u32, u33, u34, u35, u36, u37, u38, u39, u40, u41⟩ := u; exact br_t h1 (br_f h2 hp), fun _ w hp => by obtain ⟨w1, w2, w3, w4, w5, w6, w7, w8, w9, w10, w11, w12, w13, w14, w15, w16, w17, w18, w19, w20, w21, w22, w23, w24, w25, w26, w27, w28, w29, w30⟩ := w; exact br_t h1 (br_f h2 hp)⟩
  · exact ⟨lo, Nat.le_refl _, h, fun _ u hp => by obtain ⟨u1, u2, u3, u4, u5, u6, u7, u8, u9, u10, u11, u12, u13, u14, u15, u16, u17, u18, u19, u20, u21, u22, u23, u24, u25, u26, u27, u28, u29, u30, u31, u32, u33, u34, u35, u36, u37, u38, u39, u40, u41⟩ := u; exact br_f h1 hp, fun _ w hp => by obtain ⟨w1, w2, w3, w4, w5, w6, w7, w8, w9, w10, w11, w12, w13, w14, w15, w16, w17, w18, w19, w20, w21, w22, w23, w24, w25, w26, w27, w28, w29, w30⟩ := w; exact br_f h1 hp⟩
theorem i_vc0 (k0 : Int32) (k1 : Int32) (k2 : Int32) (k3 : Int32) : wpX_init (fun u => wpY_init (fun v => i_Rel 4 u v) k0 k1 k2 k3) k0 k1 k2 k3 := by
  obtain ⟨ms, a1, a2, aX, aY⟩ := zi_cl k0 2 12 (by decide) (by decide)
  obtain ⟨mt, b1, b2, bX, bY⟩ := zi_cl k1 1 16 (by decide) (by decide)
  obtain ⟨ev, c1, c2, cX, cY⟩ := zi_cl k2 1 4 (by decide) (by decide)
  obtain ⟨mx, d1, d2, dX, dY⟩ := zi_cl k3 1 16 (by decide) (by decide)
  have e1 : upd (fun _ => 0) 0 100 = zn_A (zi_c 3) := zn_upd (fun _ => 0) 0 100
  have e2 : upd (fun _ => 0) 0 200 = zn_A (zi_c 4) := zn_upd (fun _ => 0) 0 200
  unfold wpX_init
  refine aX _ _ (bX _ _ (cX _ _ (dX _ _ (nm_r e1 (nm_r e2 ?_)))))
  unfold wpY_init
  refine aY _ _ (bY _ _ (cY _ _ (dY _ _ (nm_r e1 (nm_r e2 ?_)))))
  refine zr_in (c := zi_c) (d := zi_d) (ms := ms) (mt := mt) (ev := ev) (mx := mx) (ph := 0) ⟨zi_G c2, zi_D, by show 1 ≤ ms; omega, a2, by show 0 ≤ mt; omega, b2, c1, d1, d2⟩ (fun m hm => ⟨[], ?_, ?_⟩) zr_P0
  · exact ⟨rfl, by decide, fun i hi => absurd hi (Nat.not_lt_zero i)⟩
  · exact ⟨rfl, by decide, fun i hi => absurd hi (Nat.not_lt_zero i)⟩
end ZIN
end
