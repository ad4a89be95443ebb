section
/-! pure rows to paste: stores, nI and lN arithmetic, masks, shifts, narrowing, branches by naturals (pk_le, pk_lt, pk_eq), loops (lp1 .. lp16: the measure of the state; rp1 ..: recursion), negatives. Take what you need -/
theorem pk_us {f : Nat → Int32} {k : Nat} {x : Int32} : upd f k x k = x := if_pos rfl
theorem pk_un {f : Nat → Int32} {k j : Nat} {x : Int32} (h : j ≠ k) : upd f k x j = f j := if_neg h
theorem pk_uLs {f : Nat → Int64} {k : Nat} {x : Int64} : vp_updL f k x k = x := if_pos rfl
theorem pk_uLn {f : Nat → Int64} {k j : Nat} {x : Int64} (h : j ≠ k) : vp_updL f k x j = f j := if_neg h
theorem pk_sub {a b : Nat} (h : b ≤ a) : nI a - nI b = nI (a - b) := by
  obtain ⟨c, rfl⟩ : ∃ c, a = c + b := ⟨a - b, by omega⟩
  rw [← nI_add, Int32.add_sub_cancel, Nat.add_sub_cancel]
theorem pk_m1 (n : Nat) : nI (n + 1) + (-1) = nI n := by
  rw [← nI_1, Int32.add_assoc, show (1 : Int32) + (-1) = 0 from rfl, Int32.add_zero]
theorem pk_mul (a b : Nat) : nI a * nI b = nI (a * b) := (Int32.ofNat_mul a b).symm
theorem pk_div {a d : Nat} (ha : a < 2 ^ 31) (h0 : 0 < d) (hd : d < 2 ^ 31) : nI a / nI d = nI (a / d) := by
  apply Int32.toInt_inj.mp
  rw [lg_idiv_nonneg (by rw [nI_toInt ha]; omega) (by rw [nI_toInt hd]; omega), nI_toInt ha, nI_toInt hd, nI_toInt (Nat.lt_of_le_of_lt (Nat.div_le_self a d) ha)]
  first | rfl | exact (Int.natCast_ediv _ _).symm
theorem pk_rem {a d : Nat} (ha : a < 2 ^ 31) (h0 : 0 < d) (hd : d < 2 ^ 31) : nI a - nI a / nI d * nI d = nI (a % d) := by
  rw [pk_div ha h0 hd, pk_mul, pk_sub (Nat.div_mul_le_self a d)]
  exact congrArg nI (by have := Nat.div_add_mod' a d; omega)
theorem pk_sub_toInt {a b : Nat} (ha : a < 2 ^ 30) (hb : b < 2 ^ 30) : (nI a - nI b).toInt = (a : Int) - b := by
  rw [Int32.toInt_sub, nI_toInt (by omega), nI_toInt (by omega)]
  exact Int.bmod_eq_of_le (by omega) (by omega)
theorem pk_sneg {a b : Nat} (hb : b < 2 ^ 30) (h : a < b) : nI a - nI b < 0 := by
  rw [Int32.lt_iff_toInt_lt, pk_sub_toInt (by omega) hb, show (0 : Int32).toInt = 0 from by decide]
  omega
theorem pk_ix (x : Int32) {n : Nat} (hn : n < 2 ^ 31) : x < 0 ∨ nI n ≤ x ∨ ∃ j : Nat, j < n ∧ x = nI j := by
  by_cases h : x < 0
  · exact Or.inl h
  · obtain ⟨j, hj, rfl⟩ := nI_of h
    by_cases h2 : j < n
    · exact Or.inr (Or.inr ⟨j, h2, rfl⟩)
    · exact Or.inr (Or.inl (nI_le (by omega) hj))
theorem pk_le {x y : Int32} {A B : Prop} (a b : Nat) (f : a ≤ b → A) (g : b < a → B) (hx : x = nI a := by rfl) (hy : y = nI b := by rfl) (ha : a < 2 ^ 31 := by omega) (hb : b < 2 ^ 31 := by omega) : (x ≤ y → A) ∧ (¬ x ≤ y → B) := by
  subst hx hy
  rw [nI_leI ha hb]
  exact ⟨f, fun z => g (by omega)⟩
theorem pk_lt {x y : Int32} {A B : Prop} (a b : Nat) (f : a < b → A) (g : b ≤ a → B) (hx : x = nI a := by rfl) (hy : y = nI b := by rfl) (ha : a < 2 ^ 31 := by omega) (hb : b < 2 ^ 31 := by omega) : (x < y → A) ∧ (¬ x < y → B) := by
  subst hx hy
  rw [nI_ltI ha hb]
  exact ⟨f, fun z => g (by omega)⟩
theorem pk_eq {x y : Int32} {A B : Prop} (a b : Nat) (f : a = b → A) (g : a ≠ b → B) (hx : x = nI a := by rfl) (hy : y = nI b := by rfl) (ha : a < 2 ^ 31 := by omega) (hb : b < 2 ^ 31 := by omega) : (x = y → A) ∧ (¬ x = y → B) := by
  subst hx hy
  rw [nI_eq ha hb]
  exact ⟨f, g⟩
theorem pk_in {x : Int32} (n N : Nat) (h : n < N) (hx : x = nI n := by rfl) (hN : N < 2 ^ 31 := by omega) : vp_in x N := by
  subst hx
  exact vp_in_nI h hN
theorem pk_cl {x : Int32} (n : Nat) (hx : x = nI n := by rfl) (h : n < 2 ^ 31 := by omega) : x.toNatClampNeg = n := by
  subst hx
  exact nI_clamp h
theorem pk_tn {n : Nat} (h : n < 2 ^ 32) : (nI n).toBitVec.toNat = n := Nat.mod_eq_of_lt h
theorem pk_and (x : Int32) {m : Int32} (k : Nat) (hm : m.toBitVec.toNat = 2 ^ k - 1) : x &&& m = nI (x.toBitVec.toNat % 2 ^ k) := by
  apply Int32.toBitVec_inj.mp
  apply BitVec.eq_of_toNat_eq
  rw [Int32.toBitVec_and, BitVec.toNat_and, hm, Nat.and_two_pow_sub_one_eq_mod]
  show _ = (BitVec.ofNat 32 _).toNat
  rw [BitVec.toNat_ofNat]
  exact (Nat.mod_eq_of_lt (Nat.lt_of_le_of_lt (Nat.mod_le _ _) x.toBitVec.isLt)).symm
theorem pk_andN {n : Nat} (h : n < 2 ^ 32) {m : Int32} (k : Nat) (hm : m.toBitVec.toNat = 2 ^ k - 1) : nI n &&& m = nI (n % 2 ^ k) := by
  rw [pk_and _ k hm, pk_tn h]
theorem pk_andE (x : Int32) {m : Int32} (k : Nat) (hm : m.toBitVec.toNat = 2 ^ k - 1) : ∃ j : Nat, j < 2 ^ k ∧ x &&& m = nI j := ⟨_, Nat.mod_lt _ (Nat.two_pow_pos k), pk_and x k hm⟩
theorem pk_andIn (x : Int32) {m : Int32} (k : Nat) (hm : m.toBitVec.toNat = 2 ^ k - 1) (hk : k ≤ 30) : vp_in (x &&& m) (2 ^ k) := by
  obtain ⟨j, hj, e⟩ := pk_andE x k hm
  rw [e]
  exact vp_in_nI hj (Nat.lt_of_le_of_lt (Nat.pow_le_pow_right (by decide) hk) (by decide))
theorem pk_shl (a s : Int32) (k : Nat) (hs : (s.toBitVec.smod 32).toNat = k) : (a <<< s).toBitVec.toNat = a.toBitVec.toNat * 2 ^ k % 2 ^ 32 := by
  show (a.toBitVec <<< (s.toBitVec.smod 32).toNat).toNat = _
  rw [hs, BitVec.toNat_shiftLeft, Nat.shiftLeft_eq]
theorem pk_shlN {n : Nat} (s : Int32) (k : Nat) (hs : (s.toBitVec.smod 32).toNat = k) (h : n * 2 ^ k < 2 ^ 32) : nI n <<< s = nI (n * 2 ^ k) := by
  apply Int32.toBitVec_inj.mp
  apply BitVec.eq_of_toNat_eq
  have hn : n < 2 ^ 32 := Nat.lt_of_le_of_lt (Nat.le_mul_of_pos_right n (Nat.two_pow_pos k)) h
  rw [pk_shl _ _ k hs, pk_tn hn, pk_tn h, Nat.mod_eq_of_lt h]
theorem pk_shr (a s : Int32) (k : Nat) (hs : (s.toBitVec.smod 32).toNat = k) : (a >>> s).toInt = a.toInt >>> k := by
  show (a.toBitVec.sshiftRight (s.toBitVec.smod 32).toNat).toInt = _
  rw [hs, BitVec.toInt_sshiftRight]
  rfl
theorem pk_shrN {n : Nat} (h : n < 2 ^ 31) (s : Int32) (k : Nat) (hs : (s.toBitVec.smod 32).toNat = k) : nI n >>> s = nI (n / 2 ^ k) := by
  apply Int32.toInt_inj.mp
  have h2 : n / 2 ^ k ≤ n := Nat.div_le_self _ _
  rw [pk_shr _ _ k hs, nI_toInt h, nI_toInt (by omega), Int.shiftRight_eq_div_pow]
  rfl
theorem pk_ushr (x s : Int32) (k : Nat) (hs : ((s.toUInt32 &&& Int32.toUInt32 31).toBitVec % 32).toNat = k) : (x.toUInt32 >>> (s.toUInt32 &&& Int32.toUInt32 31)).toInt32.toBitVec.toNat = x.toBitVec.toNat / 2 ^ k := by
  have e : (x.toUInt32 >>> (s.toUInt32 &&& Int32.toUInt32 31)).toInt32.toBitVec = x.toBitVec >>> k := by
    rw [← hs]
    exact UInt32.toBitVec_shiftRight _ _
  rw [e, BitVec.toNat_ushiftRight, Nat.shiftRight_eq_div_pow]
theorem pk_ushrN {n : Nat} (hn : n < 2 ^ 32) (s : Int32) (k : Nat) (hs : ((s.toUInt32 &&& Int32.toUInt32 31).toBitVec % 32).toNat = k) : ((nI n).toUInt32 >>> (s.toUInt32 &&& Int32.toUInt32 31)).toInt32 = nI (n / 2 ^ k) := by
  apply Int32.toBitVec_inj.mp
  apply BitVec.eq_of_toNat_eq
  rw [pk_ushr _ s k hs, pk_tn hn, pk_tn (Nat.lt_of_le_of_lt (Nat.div_le_self _ _) hn)]
theorem pk_nb (z : Int32) : narrow .byte (.int z.toInt8.toInt32) = .int z.toInt8.toInt32 := congrArg Value.int (by simp)
theorem pk_ns (z : Int32) : narrow .short (.int z.toInt16.toInt32) = .int z.toInt16.toInt32 := congrArg Value.int (by simp)
theorem pk_fb (r : Int32) : fits .byte (.int r.toInt8.toInt32) = true := by
  have ⟨a, b⟩ := lg_i2b_range r
  have h1 : (-128 : Int32).toInt = -128 := by decide
  have h2 : (127 : Int32).toInt = 127 := by decide
  simp only [fits, Bool.and_eq_true, decide_eq_true_eq, Int32.le_iff_toInt_le, h1, h2]
  omega
theorem pk_fs (r : Int32) : fits .short (.int r.toInt16.toInt32) = true := by
  have ⟨a, b⟩ := lg_i2s_range r
  have h1 : (-32768 : Int32).toInt = -32768 := by decide
  have h2 : (32767 : Int32).toInt = 32767 := by decide
  simp only [fits, Bool.and_eq_true, decide_eq_true_eq, Int32.le_iff_toInt_le, h1, h2]
  omega
theorem pk_charN {q : Nat} (hq : q < 65536) : narrow .char (.int (nI q)) = .int (nI q) ∧ fits .char (.int (nI q)) = true := by
  constructor
  · have e : (nI q).toUInt32.toUInt16.toUInt32.toInt32 = nI q := by
      apply Int32.toBitVec_inj.mp
      apply BitVec.eq_of_toNat_eq
      show (nI q).toUInt32.toUInt16.toUInt32.toNat = q % 2 ^ 32
      rw [UInt16.toNat_toUInt32, UInt32.toNat_toUInt16, show (nI q).toUInt32.toNat = q % 2 ^ 32 from rfl]
      omega
    exact congrArg Value.int e
  · have a : (0 : Int32) ≤ nI q := nI_pos' (by omega)
    have b : nI q ≤ 65535 := nI_le (b := 65535) (by omega) (by decide)
    show (decide ((0 : Int32) ≤ nI q) && decide (nI q ≤ 65535)) = true
    rw [decide_eq_true a, decide_eq_true b]
    rfl
theorem pk_char (x : Int32) : (x.toUInt32 % 65536).toInt32 = nI (x.toBitVec.toNat % 65536) := by
  apply Int32.toBitVec_inj.mp
  apply BitVec.eq_of_toNat_eq
  rw [pk_tn (by omega)]
  show (x.toUInt32 % 65536).toNat = _
  rw [UInt32.toNat_mod]
  rfl
theorem pk_nc (x : Int32) : narrow .char (.int (x.toUInt32 % 65536).toInt32) = .int (x.toUInt32 % 65536).toInt32 := by
  rw [pk_char]
  exact (pk_charN (Nat.mod_lt _ (by decide))).1
theorem pk_fc (x : Int32) : fits .char (.int (x.toUInt32 % 65536).toInt32) = true := by
  rw [pk_char]
  exact (pk_charN (Nat.mod_lt _ (by decide))).2
theorem pk_vb (z : Int32) : vp_nar .byte z.toInt8.toInt32 = z.toInt8.toInt32 := by rw [vp_nar_byte]; simp
theorem pk_vs (z : Int32) : vp_nar .short z.toInt16.toInt32 = z.toInt16.toInt32 := by rw [vp_nar_short]; simp
theorem pk_vc (z : Int32) : vp_nar .char (z.toUInt32 % 65536).toInt32 = (z.toUInt32 % 65536).toInt32 := Value.int.inj (pk_nc z)
theorem pk_lT {n : Nat} (h : n < 2 ^ 63) : (lN n).toInt = (n : Int) := lg_ofNat_toInt h
theorem pk_lLT {a b : Nat} (ha : a < 2 ^ 63) (hb : b < 2 ^ 63) : lN a < lN b ↔ a < b := by
  rw [Int64.lt_iff_toInt_lt, pk_lT ha, pk_lT hb]; omega
theorem pk_lLE {a b : Nat} (ha : a < 2 ^ 63) (hb : b < 2 ^ 63) : lN a ≤ lN b ↔ a ≤ b := by
  rw [Int64.le_iff_toInt_le, pk_lT ha, pk_lT hb]; omega
theorem pk_lEQ {a b : Nat} (ha : a < 2 ^ 63) (hb : b < 2 ^ 63) : lN a = lN b ↔ a = b := by
  rw [← Int64.toInt_inj, pk_lT ha, pk_lT hb]; omega
theorem pk_lOf {x : Int64} (h : ¬ x < 0) : ∃ k : Nat, k < 2 ^ 63 ∧ x = lN k := by
  rw [Int64.lt_iff_toInt_lt] at h
  have h0 : (0 : Int64).toInt = 0 := by decide
  have hx := Int64.toInt_lt x
  refine ⟨x.toInt.toNat, by omega, Int64.toInt_inj.mp ?_⟩
  rw [pk_lT (by omega)]
  omega
theorem pk_lDiv {a b : Nat} (ha : a < 2 ^ 63) (h0 : 0 < b) (hb : b < 2 ^ 63) : lN a / lN b = lN (a / b) := by
  apply Int64.toInt_inj.mp
  rw [lg_ldiv_nonneg (by rw [pk_lT ha]; omega) (by rw [pk_lT hb]; omega), pk_lT ha, pk_lT hb, pk_lT (Nat.lt_of_le_of_lt (Nat.div_le_self a b) ha)]
  rfl
theorem pk_lRem {a b : Nat} (ha : a < 2 ^ 63) (h0 : 0 < b) (hb : b < 2 ^ 63) : lN a - lN a / lN b * lN b = lN (a % b) := by
  rw [pk_lDiv ha h0 hb, lN_mul, lN_sub (Nat.div_mul_le_self a b)]
  exact congrArg lN (by have := Nat.div_add_mod' a b; omega)
theorem pk_loop {σ : Type} (W : Nat → Nat → σ → Prop) (I : Nat → σ → Prop) (e i0 : Nat) (s : σ) (hi : i0 ≤ e) (h0 : I i0 s) (hx : ∀ n s, I e s → W (n + 1) e s)
    (hs : ∀ n i s, i < e → I i s → (∀ s', I (i + 1) s' → W n (i + 1) s') → W (n + 1) i s) : ∃ n, W n i0 s :=
  ⟨e + 1, loop_i W I e hx hs (e + 1) i0 s hi (by omega) h0⟩
theorem pk_loopD {σ : Type} (W : Nat → Nat → σ → Prop) (I : Nat → σ → Prop) (hx : ∀ n s, I 0 s → W (n + 1) 0 s)
    (hs : ∀ n i s, I (i + 1) s → (∀ s', I i s' → W n i s') → W (n + 1) (i + 1) s) : ∀ (e : Nat) (s : σ), I e s → W (e + 1) e s := by
  intro e
  induction e with
  | zero => exact fun s h => hx 0 s h
  | succ e ih => exact fun s h => hs (e + 1) e s h (fun s' h' => ih s' h')
theorem lp1 {A1 : Type} (W : Nat → A1 → Prop) (I : A1 → Prop) (μ : A1 → Nat) (hs : ∀ (n : Nat) (a1 : A1), I a1 → (∀ (b1 : A1), I b1 → μ b1 < μ a1 → W n b1) → W (n + 1) a1) (a1 : A1) (h : I a1) : ∃ n, W n a1 :=
  loop_m (σ := A1) (fun n s => W n s) (fun s => I s) (fun s => μ s) (fun n s hI hk => hs n s hI (fun b1 h9 hm => hk b1 h9 hm)) a1 h
theorem lp2 {A1 A2 : Type} (W : Nat → A1 → A2 → Prop) (I : A1 → A2 → Prop) (μ : A1 → A2 → Nat) (hs : ∀ (n : Nat) (a1 : A1) (a2 : A2), I a1 a2 → (∀ (b1 : A1) (b2 : A2), I b1 b2 → μ b1 b2 < μ a1 a2 → W n b1 b2) → W (n + 1) a1 a2) (a1 : A1) (a2 : A2) (h : I a1 a2) : ∃ n, W n a1 a2 :=
  loop_m (σ := A1 × A2) (fun n s => W n s.1 s.2) (fun s => I s.1 s.2) (fun s => μ s.1 s.2) (fun n s hI hk => hs n s.1 s.2 hI (fun b1 b2 h9 hm => hk (b1, b2) h9 hm)) (a1, a2) h
theorem lp3 {A1 A2 A3 : Type} (W : Nat → A1 → A2 → A3 → Prop) (I : A1 → A2 → A3 → Prop) (μ : A1 → A2 → A3 → Nat) (hs : ∀ (n : Nat) (a1 : A1) (a2 : A2) (a3 : A3), I a1 a2 a3 → (∀ (b1 : A1) (b2 : A2) (b3 : A3), I b1 b2 b3 → μ b1 b2 b3 < μ a1 a2 a3 → W n b1 b2 b3) → W (n + 1) a1 a2 a3) (a1 : A1) (a2 : A2) (a3 : A3) (h : I a1 a2 a3) : ∃ n, W n a1 a2 a3 :=
  loop_m (σ := A1 × A2 × A3) (fun n s => W n s.1 s.2.1 s.2.2) (fun s => I s.1 s.2.1 s.2.2) (fun s => μ s.1 s.2.1 s.2.2) (fun n s hI hk => hs n s.1 s.2.1 s.2.2 hI (fun b1 b2 b3 h9 hm => hk (b1, b2, b3) h9 hm)) (a1, a2, a3) h
theorem lp4 {A1 A2 A3 A4 : Type} (W : Nat → A1 → A2 → A3 → A4 → Prop) (I : A1 → A2 → A3 → A4 → Prop) (μ : A1 → A2 → A3 → A4 → Nat) (hs : ∀ (n : Nat) (a1 : A1) (a2 : A2) (a3 : A3) (a4 : A4), I a1 a2 a3 a4 → (∀ (b1 : A1) (b2 : A2) (b3 : A3) (b4 : A4), I b1 b2 b3 b4 → μ b1 b2 b3 b4 < μ a1 a2 a3 a4 → W n b1 b2 b3 b4) → W (n + 1) a1 a2 a3 a4) (a1 : A1) (a2 : A2) (a3 : A3) (a4 : A4) (h : I a1 a2 a3 a4) : ∃ n, W n a1 a2 a3 a4 :=
  loop_m (σ := A1 × A2 × A3 × A4) (fun n s => W n s.1 s.2.1 s.2.2.1 s.2.2.2) (fun s => I s.1 s.2.1 s.2.2.1 s.2.2.2) (fun s => μ s.1 s.2.1 s.2.2.1 s.2.2.2) (fun n s hI hk => hs n s.1 s.2.1 s.2.2.1 s.2.2.2 hI (fun b1 b2 b3 b4 h9 hm => hk (b1, b2, b3, b4) h9 hm)) (a1, a2, a3, a4) h
theorem lp5 {A1 A2 A3 A4 A5 : Type} (W : Nat → A1 → A2 → A3 → A4 → A5 → Prop) (I : A1 → A2 → A3 → A4 → A5 → Prop) (μ : A1 → A2 → A3 → A4 → A5 → Nat) (hs : ∀ (n : Nat) (a1 : A1) (a2 : A2) (a3 : A3) (a4 : A4) (a5 : A5), I a1 a2 a3 a4 a5 → (∀ (b1 : A1) (b2 : A2) (b3 : A3) (b4 : A4) (b5 : A5), I b1 b2 b3 b4 b5 → μ b1 b2 b3 b4 b5 < μ a1 a2 a3 a4 a5 → W n b1 b2 b3 b4 b5) → W (n + 1) a1 a2 a3 a4 a5) (a1 : A1) (a2 : A2) (a3 : A3) (a4 : A4) (a5 : A5) (h : I a1 a2 a3 a4 a5) : ∃ n, W n a1 a2 a3 a4 a5 :=
  loop_m (σ := A1 × A2 × A3 × A4 × A5) (fun n s => W n s.1 s.2.1 s.2.2.1 s.2.2.2.1 s.2.2.2.2) (fun s => I s.1 s.2.1 s.2.2.1 s.2.2.2.1 s.2.2.2.2) (fun s => μ s.1 s.2.1 s.2.2.1 s.2.2.2.1 s.2.2.2.2) (fun n s hI hk => hs n s.1 s.2.1 s.2.2.1 s.2.2.2.1 s.2.2.2.2 hI (fun b1 b2 b3 b4 b5 h9 hm => hk (b1, b2, b3, b4, b5) h9 hm)) (a1, a2, a3, a4, a5) h
theorem lp6 {A1 A2 A3 A4 A5 A6 : Type} (W : Nat → A1 → A2 → A3 → A4 → A5 → A6 → Prop) (I : A1 → A2 → A3 → A4 → A5 → A6 → Prop) (μ : A1 → A2 → A3 → A4 → A5 → A6 → Nat) (hs : ∀ (n : Nat) (a1 : A1) (a2 : A2) (a3 : A3) (a4 : A4) (a5 : A5) (a6 : A6), I a1 a2 a3 a4 a5 a6 → (∀ (b1 : A1) (b2 : A2) (b3 : A3) (b4 : A4) (b5 : A5) (b6 : A6), I b1 b2 b3 b4 b5 b6 → μ b1 b2 b3 b4 b5 b6 < μ a1 a2 a3 a4 a5 a6 → W n b1 b2 b3 b4 b5 b6) → W (n + 1) a1 a2 a3 a4 a5 a6) (a1 : A1) (a2 : A2) (a3 : A3) (a4 : A4) (a5 : A5) (a6 : A6) (h : I a1 a2 a3 a4 a5 a6) : ∃ n, W n a1 a2 a3 a4 a5 a6 :=
  loop_m (σ := A1 × A2 × A3 × A4 × A5 × A6) (fun n s => W n s.1 s.2.1 s.2.2.1 s.2.2.2.1 s.2.2.2.2.1 s.2.2.2.2.2) (fun s => I s.1 s.2.1 s.2.2.1 s.2.2.2.1 s.2.2.2.2.1 s.2.2.2.2.2) (fun s => μ s.1 s.2.1 s.2.2.1 s.2.2.2.1 s.2.2.2.2.1 s.2.2.2.2.2) (fun n s hI hk => hs n s.1 s.2.1 s.2.2.1 s.2.2.2.1 s.2.2.2.2.1 s.2.2.2.2.2 hI (fun b1 b2 b3 b4 b5 b6 h9 hm => hk (b1, b2, b3, b4, b5, b6) h9 hm)) (a1, a2, a3, a4, a5, a6) h
theorem lp7 {A1 A2 A3 A4 A5 A6 A7 : Type} (W : Nat → A1 → A2 → A3 → A4 → A5 → A6 → A7 → Prop) (I : A1 → A2 → A3 → A4 → A5 → A6 → A7 → Prop) (μ : A1 → A2 → A3 → A4 → A5 → A6 → A7 → Nat) (hs : ∀ (n : Nat) (a1 : A1) (a2 : A2) (a3 : A3) (a4 : A4) (a5 : A5) (a6 : A6) (a7 : A7), I a1 a2 a3 a4 a5 a6 a7 → (∀ (b1 : A1) (b2 : A2) (b3 : A3) (b4 : A4) (b5 : A5) (b6 : A6) (b7 : A7), I b1 b2 b3 b4 b5 b6 b7 → μ b1 b2 b3 b4 b5 b6 b7 < μ a1 a2 a3 a4 a5 a6 a7 → W n b1 b2 b3 b4 b5 b6 b7) → W (n + 1) a1 a2 a3 a4 a5 a6 a7) (a1 : A1) (a2 : A2) (a3 : A3) (a4 : A4) (a5 : A5) (a6 : A6) (a7 : A7) (h : I a1 a2 a3 a4 a5 a6 a7) : ∃ n, W n a1 a2 a3 a4 a5 a6 a7 :=
  loop_m (σ := A1 × A2 × A3 × A4 × A5 × A6 × A7) (fun n s => W n s.1 s.2.1 s.2.2.1 s.2.2.2.1 s.2.2.2.2.1 s.2.2.2.2.2.1 s.2.2.2.2.2.2) (fun s => I s.1 s.2.1 s.2.2.1 s.2.2.2.1 s.2.2.2.2.1 s.2.2.2.2.2.1 s.2.2.2.2.2.2) (fun s => μ s.1 s.2.1 s.2.2.1 s.2.2.2.1 s.2.2.2.2.1 s.2.2.2.2.2.1 s.2.2.2.2.2.2) (fun n s hI hk => hs n s.1 s.2.1 s.2.2.1 s.2.2.2.1 s.2.2.2.2.1 s.2.2.2.2.2.1 s.2.2.2.2.2.2 hI (fun b1 b2 b3 b4 b5 b6 b7 h9 hm => hk (b1, b2, b3, b4, b5, b6, b7) h9 hm)) (a1, a2, a3, a4, a5, a6, a7) h
theorem lp8 {A1 A2 A3 A4 A5 A6 A7 A8 : Type} (W : Nat → A1 → A2 → A3 → A4 → A5 → A6 → A7 → A8 → Prop) (I : A1 → A2 → A3 → A4 → A5 → A6 → A7 → A8 → Prop) (μ : A1 → A2 → A3 → A4 → A5 → A6 → A7 → A8 → Nat) (hs : ∀ (n : Nat) (a1 : A1) (a2 : A2) (a3 : A3) (a4 : A4) (a5 : A5) (a6 : A6) (a7 : A7) (a8 : A8), I a1 a2 a3 a4 a5 a6 a7 a8 → (∀ (b1 : A1) (b2 : A2) (b3 : A3) (b4 : A4) (b5 : A5) (b6 : A6) (b7 : A7) (b8 : A8), I b1 b2 b3 b4 b5 b6 b7 b8 → μ b1 b2 b3 b4 b5 b6 b7 b8 < μ a1 a2 a3 a4 a5 a6 a7 a8 → W n b1 b2 b3 b4 b5 b6 b7 b8) → W (n + 1) a1 a2 a3 a4 a5 a6 a7 a8) (a1 : A1) (a2 : A2) (a3 : A3) (a4 : A4) (a5 : A5) (a6 : A6) (a7 : A7) (a8 : A8) (h : I a1 a2 a3 a4 a5 a6 a7 a8) : ∃ n, W n a1 a2 a3 a4 a5 a6 a7 a8 :=
  loop_m (σ := A1 × A2 × A3 × A4 × A5 × A6 × A7 × A8) (fun n s => W n s.1 s.2.1 s.2.2.1 s.2.2.2.1 s.2.2.2.2.1 s.2.2.2.2.2.1 s.2.2.2.2.2.2.1 s.2.2.2.2.2.2.2) (fun s => I s.1 s.2.1 s.2.2.1 s.2.2.2.1 s.2.2.2.2.1 s.2.2.2.2.2.1 s.2.2.2.2.2.2.1 s.2.2.2.2.2.2.2) (fun s => μ s.1 s.2.1 s.2.2.1 s.2.2.2.1 s.2.2.2.2.1 s.2.2.2.2.2.1 s.2.2.2.2.2.2.1 s.2.2.2.2.2.2.2) (fun n s hI hk => hs n s.1 s.2.1 s.2.2.1 s.2.2.2.1 s.2.2.2.2.1 s.2.2.2.2.2.1 s.2.2.2.2.2.2.1 s.2.2.2.2.2.2.2 hI (fun b1 b2 b3 b4 b5 b6 b7 b8 h9 hm => hk (b1, b2, b3, b4, b5, b6, b7, b8) h9 hm)) (a1, a2, a3, a4, a5, a6, a7, a8) h
theorem lp9 {A1 A2 A3 A4 A5 A6 A7 A8 A9 : Type} (W : Nat → A1 → A2 → A3 → A4 → A5 → A6 → A7 → A8 → A9 → Prop) (I : A1 → A2 → A3 → A4 → A5 → A6 → A7 → A8 → A9 → Prop) (μ : A1 → A2 → A3 → A4 → A5 → A6 → A7 → A8 → A9 → Nat) (hs : ∀ (n : Nat) (a1 : A1) (a2 : A2) (a3 : A3) (a4 : A4) (a5 : A5) (a6 : A6) (a7 : A7) (a8 : A8) (a9 : A9), I a1 a2 a3 a4 a5 a6 a7 a8 a9 → (∀ (b1 : A1) (b2 : A2) (b3 : A3) (b4 : A4) (b5 : A5) (b6 : A6) (b7 : A7) (b8 : A8) (b9 : A9), I b1 b2 b3 b4 b5 b6 b7 b8 b9 → μ b1 b2 b3 b4 b5 b6 b7 b8 b9 < μ a1 a2 a3 a4 a5 a6 a7 a8 a9 → W n b1 b2 b3 b4 b5 b6 b7 b8 b9) → W (n + 1) a1 a2 a3 a4 a5 a6 a7 a8 a9) (a1 : A1) (a2 : A2) (a3 : A3) (a4 : A4) (a5 : A5) (a6 : A6) (a7 : A7) (a8 : A8) (a9 : A9) (h : I a1 a2 a3 a4 a5 a6 a7 a8 a9) : ∃ n, W n a1 a2 a3 a4 a5 a6 a7 a8 a9 :=
  loop_m (σ := A1 × A2 × A3 × A4 × A5 × A6 × A7 × A8 × A9) (fun n s => W n s.1 s.2.1 s.2.2.1 s.2.2.2.1 s.2.2.2.2.1 s.2.2.2.2.2.1 s.2.2.2.2.2.2.1 s.2.2.2.2.2.2.2.1 s.2.2.2.2.2.2.2.2) (fun s => I s.1 s.2.1 s.2.2.1 s.2.2.2.1 s.2.2.2.2.1 s.2.2.2.2.2.1 s.2.2.2.2.2.2.1 s.2.2.2.2.2.2.2.1 s.2.2.2.2.2.2.2.2) (fun s => μ s.1 s.2.1 s.2.2.1 s.2.2.2.1 s.2.2.2.2.1 s.2.2.2.2.2.1 s.2.2.2.2.2.2.1 s.2.2.2.2.2.2.2.1 s.2.2.2.2.2.2.2.2) (fun n s hI hk => hs n s.1 s.2.1 s.2.2.1 s.2.2.2.1 s.2.2.2.2.1 s.2.2.2.2.2.1 s.2.2.2.2.2.2.1 s.2.2.2.2.2.2.2.1 s.2.2.2.2.2.2.2.2 hI (fun b1 b2 b3 b4 b5 b6 b7 b8 b9 h9 hm => hk (b1, b2, b3, b4, b5, b6, b7, b8, b9) h9 hm)) (a1, a2, a3, a4, a5, a6, a7, a8, a9) h
theorem lp10 {A1 A2 A3 A4 A5 A6 A7 A8 A9 A10 : Type} (W : Nat → A1 → A2 → A3 → A4 → A5 → A6 → A7 → A8 → A9 → A10 → Prop) (I : A1 → A2 → A3 → A4 → A5 → A6 → A7 → A8 → A9 → A10 → Prop) (μ : A1 → A2 → A3 → A4 → A5 → A6 → A7 → A8 → A9 → A10 → Nat) (hs : ∀ (n : Nat) (a1 : A1) (a2 : A2) (a3 : A3) (a4 : A4) (a5 : A5) (a6 : A6) (a7 : A7) (a8 : A8) (a9 : A9) (a10 : A10), I a1 a2 a3 a4 a5 a6 a7 a8 a9 a10 → (∀ (b1 : A1) (b2 : A2) (b3 : A3) (b4 : A4) (b5 : A5) (b6 : A6) (b7 : A7) (b8 : A8) (b9 : A9) (b10 : A10), I b1 b2 b3 b4 b5 b6 b7 b8 b9 b10 → μ b1 b2 b3 b4 b5 b6 b7 b8 b9 b10 < μ a1 a2 a3 a4 a5 a6 a7 a8 a9 a10 → W n b1 b2 b3 b4 b5 b6 b7 b8 b9 b10) → W (n + 1) a1 a2 a3 a4 a5 a6 a7 a8 a9 a10) (a1 : A1) (a2 : A2) (a3 : A3) (a4 : A4) (a5 : A5) (a6 : A6) (a7 : A7) (a8 : A8) (a9 : A9) (a10 : A10) (h : I a1 a2 a3 a4 a5 a6 a7 a8 a9 a10) : ∃ n, W n a1 a2 a3 a4 a5 a6 a7 a8 a9 a10 :=
  loop_m (σ := A1 × A2 × A3 × A4 × A5 × A6 × A7 × A8 × A9 × A10) (fun n s => W n s.1 s.2.1 s.2.2.1 s.2.2.2.1 s.2.2.2.2.1 s.2.2.2.2.2.1 s.2.2.2.2.2.2.1 s.2.2.2.2.2.2.2.1 s.2.2.2.2.2.2.2.2.1 s.2.2.2.2.2.2.2.2.2) (fun s => I s.1 s.2.1 s.2.2.1 s.2.2.2.1 s.2.2.2.2.1 s.2.2.2.2.2.1 s.2.2.2.2.2.2.1 s.2.2.2.2.2.2.2.1 s.2.2.2.2.2.2.2.2.1 s.2.2.2.2.2.2.2.2.2) (fun s => μ s.1 s.2.1 s.2.2.1 s.2.2.2.1 s.2.2.2.2.1 s.2.2.2.2.2.1 s.2.2.2.2.2.2.1 s.2.2.2.2.2.2.2.1 s.2.2.2.2.2.2.2.2.1 s.2.2.2.2.2.2.2.2.2) (fun n s hI hk => hs n s.1 s.2.1 s.2.2.1 s.2.2.2.1 s.2.2.2.2.1 s.2.2.2.2.2.1 s.2.2.2.2.2.2.1 s.2.2.2.2.2.2.2.1 s.2.2.2.2.2.2.2.2.1 s.2.2.2.2.2.2.2.2.2 hI (fun b1 b2 b3 b4 b5 b6 b7 b8 b9 b10 h9 hm => hk (b1, b2, b3, b4, b5, b6, b7, b8, b9, b10) h9 hm)) (a1, a2, a3, a4, a5, a6, a7, a8, a9, a10) h
theorem lp11 {A1 A2 A3 A4 A5 A6 A7 A8 A9 A10 A11 : Type} (W : Nat → A1 → A2 → A3 → A4 → A5 → A6 → A7 → A8 → A9 → A10 → A11 → Prop) (I : A1 → A2 → A3 → A4 → A5 → A6 → A7 → A8 → A9 → A10 → A11 → Prop) (μ : A1 → A2 → A3 → A4 → A5 → A6 → A7 → A8 → A9 → A10 → A11 → Nat) (hs : ∀ (n : Nat) (a1 : A1) (a2 : A2) (a3 : A3) (a4 : A4) (a5 : A5) (a6 : A6) (a7 : A7) (a8 : A8) (a9 : A9) (a10 : A10) (a11 : A11), I a1 a2 a3 a4 a5 a6 a7 a8 a9 a10 a11 → (∀ (b1 : A1) (b2 : A2) (b3 : A3) (b4 : A4) (b5 : A5) (b6 : A6) (b7 : A7) (b8 : A8) (b9 : A9) (b10 : A10) (b11 : A11), I b1 b2 b3 b4 b5 b6 b7 b8 b9 b10 b11 → μ b1 b2 b3 b4 b5 b6 b7 b8 b9 b10 b11 < μ a1 a2 a3 a4 a5 a6 a7 a8 a9 a10 a11 → W n b1 b2 b3 b4 b5 b6 b7 b8 b9 b10 b11) → W (n + 1) a1 a2 a3 a4 a5 a6 a7 a8 a9 a10 a11) (a1 : A1) (a2 : A2) (a3 : A3) (a4 : A4) (a5 : A5) (a6 : A6) (a7 : A7) (a8 : A8) (a9 : A9) (a10 : A10) (a11 : A11) (h : I a1 a2 a3 a4 a5 a6 a7 a8 a9 a10 a11) : ∃ n, W n a1 a2 a3 a4 a5 a6 a7 a8 a9 a10 a11 :=
  loop_m (σ := A1 × A2 × A3 × A4 × A5 × A6 × A7 × A8 × A9 × A10 × A11) (fun n s => W n s.1 s.2.1 s.2.2.1 s.2.2.2.1 s.2.2.2.2.1 s.2.2.2.2.2.1 s.2.2.2.2.2.2.1 s.2.2.2.2.2.2.2.1 s.2.2.2.2.2.2.2.2.1 s.2.2.2.2.2.2.2.2.2.1 s.2.2.2.2.2.2.2.2.2.2) (fun s => I s.1 s.2.1 s.2.2.1 s.2.2.2.1 s.2.2.2.2.1 s.2.2.2.2.2.1 s.2.2.2.2.2.2.1 s.2.2.2.2.2.2.2.1 s.2.2.2.2.2.2.2.2.1 s.2.2.2.2.2.2.2.2.2.1 s.2.2.2.2.2.2.2.2.2.2) (fun s => μ s.1 s.2.1 s.2.2.1 s.2.2.2.1 s.2.2.2.2.1 s.2.2.2.2.2.1 s.2.2.2.2.2.2.1 s.2.2.2.2.2.2.2.1 s.2.2.2.2.2.2.2.2.1 s.2.2.2.2.2.2.2.2.2.1 s.2.2.2.2.2.2.2.2.2.2) (fun n s hI hk => hs n s.1 s.2.1 s.2.2.1 s.2.2.2.1 s.2.2.2.2.1 s.2.2.2.2.2.1 s.2.2.2.2.2.2.1 s.2.2.2.2.2.2.2.1 s.2.2.2.2.2.2.2.2.1 s.2.2.2.2.2.2.2.2.2.1 s.2.2.2.2.2.2.2.2.2.2 hI (fun b1 b2 b3 b4 b5 b6 b7 b8 b9 b10 b11 h9 hm => hk (b1, b2, b3, b4, b5, b6, b7, b8, b9, b10, b11) h9 hm)) (a1, a2, a3, a4, a5, a6, a7, a8, a9, a10, a11) h
theorem lp12 {A1 A2 A3 A4 A5 A6 A7 A8 A9 A10 A11 A12 : Type} (W : Nat → A1 → A2 → A3 → A4 → A5 → A6 → A7 → A8 → A9 → A10 → A11 → A12 → Prop) (I : A1 → A2 → A3 → A4 → A5 → A6 → A7 → A8 → A9 → A10 → A11 → A12 → Prop) (μ : A1 → A2 → A3 → A4 → A5 → A6 → A7 → A8 → A9 → A10 → A11 → A12 → Nat) (hs : ∀ (n : Nat) (a1 : A1) (a2 : A2) (a3 : A3) (a4 : A4) (a5 : A5) (a6 : A6) (a7 : A7) (a8 : A8) (a9 : A9) (a10 : A10) (a11 : A11) (a12 : A12), I a1 a2 a3 a4 a5 a6 a7 a8 a9 a10 a11 a12 → (∀ (b1 : A1) (b2 : A2) (b3 : A3) (b4 : A4) (b5 : A5) (b6 : A6) (b7 : A7) (b8 : A8) (b9 : A9) (b10 : A10) (b11 : A11) (b12 : A12), I b1 b2 b3 b4 b5 b6 b7 b8 b9 b10 b11 b12 → μ b1 b2 b3 b4 b5 b6 b7 b8 b9 b10 b11 b12 < μ a1 a2 a3 a4 a5 a6 a7 a8 a9 a10 a11 a12 → W n b1 b2 b3 b4 b5 b6 b7 b8 b9 b10 b11 b12) → W (n + 1) a1 a2 a3 a4 a5 a6 a7 a8 a9 a10 a11 a12) (a1 : A1) (a2 : A2) (a3 : A3) (a4 : A4) (a5 : A5) (a6 : A6) (a7 : A7) (a8 : A8) (a9 : A9) (a10 : A10) (a11 : A11) (a12 : A12) (h : I a1 a2 a3 a4 a5 a6 a7 a8 a9 a10 a11 a12) : ∃ n, W n a1 a2 a3 a4 a5 a6 a7 a8 a9 a10 a11 a12 :=
  loop_m (σ := A1 × A2 × A3 × A4 × A5 × A6 × A7 × A8 × A9 × A10 × A11 × A12) (fun n s => W n s.1 s.2.1 s.2.2.1 s.2.2.2.1 s.2.2.2.2.1 s.2.2.2.2.2.1 s.2.2.2.2.2.2.1 s.2.2.2.2.2.2.2.1 s.2.2.2.2.2.2.2.2.1 s.2.2.2.2.2.2.2.2.2.1 s.2.2.2.2.2.2.2.2.2.2.1 s.2.2.2.2.2.2.2.2.2.2.2) (fun s => I s.1 s.2.1 s.2.2.1 s.2.2.2.1 s.2.2.2.2.1 s.2.2.2.2.2.1 s.2.2.2.2.2.2.1 s.2.2.2.2.2.2.2.1 s.2.2.2.2.2.2.2.2.1 s.2.2.2.2.2.2.2.2.2.1 s.2.2.2.2.2.2.2.2.2.2.1 s.2.2.2.2.2.2.2.2.2.2.2) (fun s => μ s.1 s.2.1 s.2.2.1 s.2.2.2.1 s.2.2.2.2.1 s.2.2.2.2.2.1 s.2.2.2.2.2.2.1 s.2.2.2.2.2.2.2.1 s.2.2.2.2.2.2.2.2.1 s.2.2.2.2.2.2.2.2.2.1 s.2.2.2.2.2.2.2.2.2.2.1 s.2.2.2.2.2.2.2.2.2.2.2) (fun n s hI hk => hs n s.1 s.2.1 s.2.2.1 s.2.2.2.1 s.2.2.2.2.1 s.2.2.2.2.2.1 s.2.2.2.2.2.2.1 s.2.2.2.2.2.2.2.1 s.2.2.2.2.2.2.2.2.1 s.2.2.2.2.2.2.2.2.2.1 s.2.2.2.2.2.2.2.2.2.2.1 s.2.2.2.2.2.2.2.2.2.2.2 hI (fun b1 b2 b3 b4 b5 b6 b7 b8 b9 b10 b11 b12 h9 hm => hk (b1, b2, b3, b4, b5, b6, b7, b8, b9, b10, b11, b12) h9 hm)) (a1, a2, a3, a4, a5, a6, a7, a8, a9, a10, a11, a12) h
theorem lp13 {A1 A2 A3 A4 A5 A6 A7 A8 A9 A10 A11 A12 A13 : Type} (W : Nat → A1 → A2 → A3 → A4 → A5 → A6 → A7 → A8 → A9 → A10 → A11 → A12 → A13 → Prop) (I : A1 → A2 → A3 → A4 → A5 → A6 → A7 → A8 → A9 → A10 → A11 → A12 → A13 → Prop) (μ : A1 → A2 → A3 → A4 → A5 → A6 → A7 → A8 → A9 → A10 → A11 → A12 → A13 → Nat) (hs : ∀ (n : Nat) (a1 : A1) (a2 : A2) (a3 : A3) (a4 : A4) (a5 : A5) (a6 : A6) (a7 : A7) (a8 : A8) (a9 : A9) (a10 : A10) (a11 : A11) (a12 : A12) (a13 : A13), I a1 a2 a3 a4 a5 a6 a7 a8 a9 a10 a11 a12 a13 → (∀ (b1 : A1) (b2 : A2) (b3 : A3) (b4 : A4) (b5 : A5) (b6 : A6) (b7 : A7) (b8 : A8) (b9 : A9) (b10 : A10) (b11 : A11) (b12 : A12) (b13 : A13), I b1 b2 b3 b4 b5 b6 b7 b8 b9 b10 b11 b12 b13 → μ b1 b2 b3 b4 b5 b6 b7 b8 b9 b10 b11 b12 b13 < μ a1 a2 a3 a4 a5 a6 a7 a8 a9 a10 a11 a12 a13 → W n b1 b2 b3 b4 b5 b6 b7 b8 b9 b10 b11 b12 b13) → W (n + 1) a1 a2 a3 a4 a5 a6 a7 a8 a9 a10 a11 a12 a13) (a1 : A1) (a2 : A2) (a3 : A3) (a4 : A4) (a5 : A5) (a6 : A6) (a7 : A7) (a8 : A8) (a9 : A9) (a10 : A10) (a11 : A11) (a12 : A12) (a13 : A13) (h : I a1 a2 a3 a4 a5 a6 a7 a8 a9 a10 a11 a12 a13) : ∃ n, W n a1 a2 a3 a4 a5 a6 a7 a8 a9 a10 a11 a12 a13 :=
  loop_m (σ := A1 × A2 × A3 × A4 × A5 × A6 × A7 × A8 × A9 × A10 × A11 × A12 × A13) (fun n s => W n s.1 s.2.1 s.2.2.1 s.2.2.2.1 s.2.2.2.2.1 s.2.2.2.2.2.1 s.2.2.2.2.2.2.1 s.2.2.2.2.2.2.2.1 s.2.2.2.2.2.2.2.2.1 s.2.2.2.2.2.2.2.2.2.1 s.2.2.2.2.2.2.2.2.2.2.1 s.2.2.2.2.2.2.2.2.2.2.2.1 s.2.2.2.2.2.2.2.2.2.2.2.2) (fun s => I s.1 s.2.1 s.2.2.1 s.2.2.2.1 s.2.2.2.2.1 s.2.2.2.2.2.1 s.2.2.2.2.2.2.1 s.2.2.2.2.2.2.2.1 s.2.2.2.2.2.2.2.2.1 s.2.2.2.2.2.2.2.2.2.1 s.2.2.2.2.2.2.2.2.2.2.1 s.2.2.2.2.2.2.2.2.2.2.2.1 s.2.2.2.2.2.2.2.2.2.2.2.2) (fun s => μ s.1 s.2.1 s.2.2.1 s.2.2.2.1 s.2.2.2.2.1 s.2.2.2.2.2.1 s.2.2.2.2.2.2.1 s.2.2.2.2.2.2.2.1 s.2.2.2.2.2.2.2.2.1 s.2.2.2.2.2.2.2.2.2.1 s.2.2.2.2.2.2.2.2.2.2.1 s.2.2.2.2.2.2.2.2.2.2.2.1 s.2.2.2.2.2.2.2.2.2.2.2.2) (fun n s hI hk => hs n s.1 s.2.1 s.2.2.1 s.2.2.2.1 s.2.2.2.2.1 s.2.2.2.2.2.1 s.2.2.2.2.2.2.1 s.2.2.2.2.2.2.2.1 s.2.2.2.2.2.2.2.2.1 s.2.2.2.2.2.2.2.2.2.1 s.2.2.2.2.2.2.2.2.2.2.1 s.2.2.2.2.2.2.2.2.2.2.2.1 s.2.2.2.2.2.2.2.2.2.2.2.2 hI (fun b1 b2 b3 b4 b5 b6 b7 b8 b9 b10 b11 b12 b13 h9 hm => hk (b1, b2, b3, b4, b5, b6, b7, b8, b9, b10, b11, b12, b13) h9 hm)) (a1, a2, a3, a4, a5, a6, a7, a8, a9, a10, a11, a12, a13) h
theorem lp14 {A1 A2 A3 A4 A5 A6 A7 A8 A9 A10 A11 A12 A13 A14 : Type} (W : Nat → A1 → A2 → A3 → A4 → A5 → A6 → A7 → A8 → A9 → A10 → A11 → A12 → A13 → A14 → Prop) (I : A1 → A2 → A3 → A4 → A5 → A6 → A7 → A8 → A9 → A10 → A11 → A12 → A13 → A14 → Prop) (μ : A1 → A2 → A3 → A4 → A5 → A6 → A7 → A8 → A9 → A10 → A11 → A12 → A13 → A14 → Nat) (hs : ∀ (n : Nat) (a1 : A1) (a2 : A2) (a3 : A3) (a4 : A4) (a5 : A5) (a6 : A6) (a7 : A7) (a8 : A8) (a9 : A9) (a10 : A10) (a11 : A11) (a12 : A12) (a13 : A13) (a14 : A14), I a1 a2 a3 a4 a5 a6 a7 a8 a9 a10 a11 a12 a13 a14 → (∀ (b1 : A1) (b2 : A2) (b3 : A3) (b4 : A4) (b5 : A5) (b6 : A6) (b7 : A7) (b8 : A8) (b9 : A9) (b10 : A10) (b11 : A11) (b12 : A12) (b13 : A13) (b14 : A14), I b1 b2 b3 b4 b5 b6 b7 b8 b9 b10 b11 b12 b13 b14 → μ b1 b2 b3 b4 b5 b6 b7 b8 b9 b10 b11 b12 b13 b14 < μ a1 a2 a3 a4 a5 a6 a7 a8 a9 a10 a11 a12 a13 a14 → W n b1 b2 b3 b4 b5 b6 b7 b8 b9 b10 b11 b12 b13 b14) → W (n + 1) a1 a2 a3 a4 a5 a6 a7 a8 a9 a10 a11 a12 a13 a14) (a1 : A1) (a2 : A2) (a3 : A3) (a4 : A4) (a5 : A5) (a6 : A6) (a7 : A7) (a8 : A8) (a9 : A9) (a10 : A10) (a11 : A11) (a12 : A12) (a13 : A13) (a14 : A14) (h : I a1 a2 a3 a4 a5 a6 a7 a8 a9 a10 a11 a12 a13 a14) : ∃ n, W n a1 a2 a3 a4 a5 a6 a7 a8 a9 a10 a11 a12 a13 a14 :=
  loop_m (σ := A1 × A2 × A3 × A4 × A5 × A6 × A7 × A8 × A9 × A10 × A11 × A12 × A13 × A14) (fun n s => W n s.1 s.2.1 s.2.2.1 s.2.2.2.1 s.2.2.2.2.1 s.2.2.2.2.2.1 s.2.2.2.2.2.2.1 s.2.2.2.2.2.2.2.1 s.2.2.2.2.2.2.2.2.1 s.2.2.2.2.2.2.2.2.2.1 s.2.2.2.2.2.2.2.2.2.2.1 s.2.2.2.2.2.2.2.2.2.2.2.1 s.2.2.2.2.2.2.2.2.2.2.2.2.1 s.2.2.2.2.2.2.2.2.2.2.2.2.2) (fun s => I s.1 s.2.1 s.2.2.1 s.2.2.2.1 s.2.2.2.2.1 s.2.2.2.2.2.1 s.2.2.2.2.2.2.1 s.2.2.2.2.2.2.2.1 s.2.2.2.2.2.2.2.2.1 s.2.2.2.2.2.2.2.2.2.1 s.2.2.2.2.2.2.2.2.2.2.1 s.2.2.2.2.2.2.2.2.2.2.2.1 s.2.2.2.2.2.2.2.2.2.2.2.2.1 s.2.2.2.2.2.2.2.2.2.2.2.2.2) (fun s => μ s.1 s.2.1 s.2.2.1 s.2.2.2.1 s.2.2.2.2.1 s.2.2.2.2.2.1 s.2.2.2.2.2.2.1 s.2.2.2.2.2.2.2.1 s.2.2.2.2.2.2.2.2.1 s.2.2.2.2.2.2.2.2.2.1 s.2.2.2.2.2.2.2.2.2.2.1 s.2.2.2.2.2.2.2.2.2.2.2.1 s.2.2.2.2.2.2.2.2.2.2.2.2.1 s.2.2.2.2.2.2.2.2.2.2.2.2.2) (fun n s hI hk => hs n s.1 s.2.1 s.2.2.1 s.2.2.2.1 s.2.2.2.2.1 s.2.2.2.2.2.1 s.2.2.2.2.2.2.1 s.2.2.2.2.2.2.2.1 s.2.2.2.2.2.2.2.2.1 s.2.2.2.2.2.2.2.2.2.1 s.2.2.2.2.2.2.2.2.2.2.1 s.2.2.2.2.2.2.2.2.2.2.2.1 s.2.2.2.2.2.2.2.2.2.2.2.2.1 s.2.2.2.2.2.2.2.2.2.2.2.2.2 hI (fun b1 b2 b3 b4 b5 b6 b7 b8 b9 b10 b11 b12 b13 b14 h9 hm => hk (b1, b2, b3, b4, b5, b6, b7, b8, b9, b10, b11, b12, b13, b14) h9 hm)) (a1, a2, a3, a4, a5, a6, a7, a8, a9, a10, a11, a12, a13, a14) h
theorem lp15 {A1 A2 A3 A4 A5 A6 A7 A8 A9 A10 A11 A12 A13 A14 A15 : Type} (W : Nat → A1 → A2 → A3 → A4 → A5 → A6 → A7 → A8 → A9 → A10 → A11 → A12 → A13 → A14 → A15 → Prop) (I : A1 → A2 → A3 → A4 → A5 → A6 → A7 → A8 → A9 → A10 → A11 → A12 → A13 → A14 → A15 → Prop) (μ : A1 → A2 → A3 → A4 → A5 → A6 → A7 → A8 → A9 → A10 → A11 → A12 → A13 → A14 → A15 → Nat) (hs : ∀ (n : Nat) (a1 : A1) (a2 : A2) (a3 : A3) (a4 : A4) (a5 : A5) (a6 : A6) (a7 : A7) (a8 : A8) (a9 : A9) (a10 : A10) (a11 : A11) (a12 : A12) (a13 : A13) (a14 : A14) (a15 : A15), I a1 a2 a3 a4 a5 a6 a7 a8 a9 a10 a11 a12 a13 a14 a15 → (∀ (b1 : A1) (b2 : A2) (b3 : A3) (b4 : A4) (b5 : A5) (b6 : A6) (b7 : A7) (b8 : A8) (b9 : A9) (b10 : A10) (b11 : A11) (b12 : A12) (b13 : A13) (b14 : A14) (b15 : A15), I b1 b2 b3 b4 b5 b6 b7 b8 b9 b10 b11 b12 b13 b14 b15 → μ b1 b2 b3 b4 b5 b6 b7 b8 b9 b10 b11 b12 b13 b14 b15 < μ a1 a2 a3 a4 a5 a6 a7 a8 a9 a10 a11 a12 a13 a14 a15 → W n b1 b2 b3 b4 b5 b6 b7 b8 b9 b10 b11 b12 b13 b14 b15) → W (n + 1) a1 a2 a3 a4 a5 a6 a7 a8 a9 a10 a11 a12 a13 a14 a15) (a1 : A1) (a2 : A2) (a3 : A3) (a4 : A4) (a5 : A5) (a6 : A6) (a7 : A7) (a8 : A8) (a9 : A9) (a10 : A10) (a11 : A11) (a12 : A12) (a13 : A13) (a14 : A14) (a15 : A15) (h : I a1 a2 a3 a4 a5 a6 a7 a8 a9 a10 a11 a12 a13 a14 a15) : ∃ n, W n a1 a2 a3 a4 a5 a6 a7 a8 a9 a10 a11 a12 a13 a14 a15 :=
  loop_m (σ := A1 × A2 × A3 × A4 × A5 × A6 × A7 × A8 × A9 × A10 × A11 × A12 × A13 × A14 × A15) (fun n s => W n s.1 s.2.1 s.2.2.1 s.2.2.2.1 s.2.2.2.2.1 s.2.2.2.2.2.1 s.2.2.2.2.2.2.1 s.2.2.2.2.2.2.2.1 s.2.2.2.2.2.2.2.2.1 s.2.2.2.2.2.2.2.2.2.1 s.2.2.2.2.2.2.2.2.2.2.1 s.2.2.2.2.2.2.2.2.2.2.2.1 s.2.2.2.2.2.2.2.2.2.2.2.2.1 s.2.2.2.2.2.2.2.2.2.2.2.2.2.1 s.2.2.2.2.2.2.2.2.2.2.2.2.2.2) (fun s => I s.1 s.2.1 s.2.2.1 s.2.2.2.1 s.2.2.2.2.1 s.2.2.2.2.2.1 s.2.2.2.2.2.2.1 s.2.2.2.2.2.2.2.1 s.2.2.2.2.2.2.2.2.1 s.2.2.2.2.2.2.2.2.2.1 s.2.2.2.2.2.2.2.2.2.2.1 s.2.2.2.2.2.2.2.2.2.2.2.1 s.2.2.2.2.2.2.2.2.2.2.2.2.1 s.2.2.2.2.2.2.2.2.2.2.2.2.2.1 s.2.2.2.2.2.2.2.2.2.2.2.2.2.2) (fun s => μ s.1 s.2.1 s.2.2.1 s.2.2.2.1 s.2.2.2.2.1 s.2.2.2.2.2.1 s.2.2.2.2.2.2.1 s.2.2.2.2.2.2.2.1 s.2.2.2.2.2.2.2.2.1 s.2.2.2.2.2.2.2.2.2.1 s.2.2.2.2.2.2.2.2.2.2.1 s.2.2.2.2.2.2.2.2.2.2.2.1 s.2.2.2.2.2.2.2.2.2.2.2.2.1 s.2.2.2.2.2.2.2.2.2.2.2.2.2.1 s.2.2.2.2.2.2.2.2.2.2.2.2.2.2) (fun n s hI hk => hs n s.1 s.2.1 s.2.2.1 s.2.2.2.1 s.2.2.2.2.1 s.2.2.2.2.2.1 s.2.2.2.2.2.2.1 s.2.2.2.2.2.2.2.1 s.2.2.2.2.2.2.2.2.1 s.2.2.2.2.2.2.2.2.2.1 s.2.2.2.2.2.2.2.2.2.2.1 s.2.2.2.2.2.2.2.2.2.2.2.1 s.2.2.2.2.2.2.2.2.2.2.2.2.1 s.2.2.2.2.2.2.2.2.2.2.2.2.2.1 s.2.2.2.2.2.2.2.2.2.2.2.2.2.2 hI (fun b1 b2 b3 b4 b5 b6 b7 b8 b9 b10 b11 b12 b13 b14 b15 h9 hm => hk (b1, b2, b3, b4, b5, b6, b7, b8, b9, b10, b11, b12, b13, b14, b15) h9 hm)) (a1, a2, a3, a4, a5, a6, a7, a8, a9, a10, a11, a12, a13, a14, a15) h
theorem lp16 {A1 A2 A3 A4 A5 A6 A7 A8 A9 A10 A11 A12 A13 A14 A15 A16 : Type} (W : Nat → A1 → A2 → A3 → A4 → A5 → A6 → A7 → A8 → A9 → A10 → A11 → A12 → A13 → A14 → A15 → A16 → Prop) (I : A1 → A2 → A3 → A4 → A5 → A6 → A7 → A8 → A9 → A10 → A11 → A12 → A13 → A14 → A15 → A16 → Prop) (μ : A1 → A2 → A3 → A4 → A5 → A6 → A7 → A8 → A9 → A10 → A11 → A12 → A13 → A14 → A15 → A16 → Nat) (hs : ∀ (n : Nat) (a1 : A1) (a2 : A2) (a3 : A3) (a4 : A4) (a5 : A5) (a6 : A6) (a7 : A7) (a8 : A8) (a9 : A9) (a10 : A10) (a11 : A11) (a12 : A12) (a13 : A13) (a14 : A14) (a15 : A15) (a16 : A16), I a1 a2 a3 a4 a5 a6 a7 a8 a9 a10 a11 a12 a13 a14 a15 a16 → (∀ (b1 : A1) (b2 : A2) (b3 : A3) (b4 : A4) (b5 : A5) (b6 : A6) (b7 : A7) (b8 : A8) (b9 : A9) (b10 : A10) (b11 : A11) (b12 : A12) (b13 : A13) (b14 : A14) (b15 : A15) (b16 : A16), I b1 b2 b3 b4 b5 b6 b7 b8 b9 b10 b11 b12 b13 b14 b15 b16 → μ b1 b2 b3 b4 b5 b6 b7 b8 b9 b10 b11 b12 b13 b14 b15 b16 < μ a1 a2 a3 a4 a5 a6 a7 a8 a9 a10 a11 a12 a13 a14 a15 a16 → W n b1 b2 b3 b4 b5 b6 b7 b8 b9 b10 b11 b12 b13 b14 b15 b16) → W (n + 1) a1 a2 a3 a4 a5 a6 a7 a8 a9 a10 a11 a12 a13 a14 a15 a16) (a1 : A1) (a2 : A2) (a3 : A3) (a4 : A4) (a5 : A5) (a6 : A6) (a7 : A7) (a8 : A8) (a9 : A9) (a10 : A10) (a11 : A11) (a12 : A12) (a13 : A13) (a14 : A14) (a15 : A15) (a16 : A16) (h : I a1 a2 a3 a4 a5 a6 a7 a8 a9 a10 a11 a12 a13 a14 a15 a16) : ∃ n, W n a1 a2 a3 a4 a5 a6 a7 a8 a9 a10 a11 a12 a13 a14 a15 a16 :=
  loop_m (σ := A1 × A2 × A3 × A4 × A5 × A6 × A7 × A8 × A9 × A10 × A11 × A12 × A13 × A14 × A15 × A16) (fun n s => W n s.1 s.2.1 s.2.2.1 s.2.2.2.1 s.2.2.2.2.1 s.2.2.2.2.2.1 s.2.2.2.2.2.2.1 s.2.2.2.2.2.2.2.1 s.2.2.2.2.2.2.2.2.1 s.2.2.2.2.2.2.2.2.2.1 s.2.2.2.2.2.2.2.2.2.2.1 s.2.2.2.2.2.2.2.2.2.2.2.1 s.2.2.2.2.2.2.2.2.2.2.2.2.1 s.2.2.2.2.2.2.2.2.2.2.2.2.2.1 s.2.2.2.2.2.2.2.2.2.2.2.2.2.2.1 s.2.2.2.2.2.2.2.2.2.2.2.2.2.2.2) (fun s => I s.1 s.2.1 s.2.2.1 s.2.2.2.1 s.2.2.2.2.1 s.2.2.2.2.2.1 s.2.2.2.2.2.2.1 s.2.2.2.2.2.2.2.1 s.2.2.2.2.2.2.2.2.1 s.2.2.2.2.2.2.2.2.2.1 s.2.2.2.2.2.2.2.2.2.2.1 s.2.2.2.2.2.2.2.2.2.2.2.1 s.2.2.2.2.2.2.2.2.2.2.2.2.1 s.2.2.2.2.2.2.2.2.2.2.2.2.2.1 s.2.2.2.2.2.2.2.2.2.2.2.2.2.2.1 s.2.2.2.2.2.2.2.2.2.2.2.2.2.2.2) (fun s => μ s.1 s.2.1 s.2.2.1 s.2.2.2.1 s.2.2.2.2.1 s.2.2.2.2.2.1 s.2.2.2.2.2.2.1 s.2.2.2.2.2.2.2.1 s.2.2.2.2.2.2.2.2.1 s.2.2.2.2.2.2.2.2.2.1 s.2.2.2.2.2.2.2.2.2.2.1 s.2.2.2.2.2.2.2.2.2.2.2.1 s.2.2.2.2.2.2.2.2.2.2.2.2.1 s.2.2.2.2.2.2.2.2.2.2.2.2.2.1 s.2.2.2.2.2.2.2.2.2.2.2.2.2.2.1 s.2.2.2.2.2.2.2.2.2.2.2.2.2.2.2) (fun n s hI hk => hs n s.1 s.2.1 s.2.2.1 s.2.2.2.1 s.2.2.2.2.1 s.2.2.2.2.2.1 s.2.2.2.2.2.2.1 s.2.2.2.2.2.2.2.1 s.2.2.2.2.2.2.2.2.1 s.2.2.2.2.2.2.2.2.2.1 s.2.2.2.2.2.2.2.2.2.2.1 s.2.2.2.2.2.2.2.2.2.2.2.1 s.2.2.2.2.2.2.2.2.2.2.2.2.1 s.2.2.2.2.2.2.2.2.2.2.2.2.2.1 s.2.2.2.2.2.2.2.2.2.2.2.2.2.2.1 s.2.2.2.2.2.2.2.2.2.2.2.2.2.2.2 hI (fun b1 b2 b3 b4 b5 b6 b7 b8 b9 b10 b11 b12 b13 b14 b15 b16 h9 hm => hk (b1, b2, b3, b4, b5, b6, b7, b8, b9, b10, b11, b12, b13, b14, b15, b16) h9 hm)) (a1, a2, a3, a4, a5, a6, a7, a8, a9, a10, a11, a12, a13, a14, a15, a16) h
theorem pk_least (P : Nat → Prop) (h : ∃ k, P k) : ∃ k, P k ∧ ∀ j, j < k → ¬ P j := by
  obtain ⟨k, hk⟩ := h
  induction k using Nat.strongRecOn with
  | ind k ih =>
    by_cases e : ∃ j, j < k ∧ P j
    · obtain ⟨j, hj, pj⟩ := e
      exact ih j hj pj
    · exact ⟨k, hk, fun j hj pj => e ⟨j, hj, pj⟩⟩
theorem rp1 {ρ A1 : Type} (W : Nat → (ρ → Prop) → A1 → Prop) (ok : A1 → Prop) (μ : A1 → Nat) (val : A1 → ρ)
    (hs : ∀ (d : Nat) (post : ρ → Prop) (a1 : A1), ok a1 → post (val a1) → (∀ (post' : ρ → Prop) (b1 : A1), ok b1 → μ b1 < μ a1 → post' (val b1) → W d post' b1) → W (d + 1) post a1) :
    ∀ (d : Nat) (post : ρ → Prop) (a1 : A1), ok a1 → μ a1 < d → post (val a1) → W d post a1 := by
  intro d
  induction d with
  | zero => intro post a1 _ h; omega
  | succ d ih =>
    intro post a1 ho hm hp
    exact hs d post a1 ho hp (fun post' b1 ho' hm' hp' => ih post' b1 ho' (by omega) hp')
theorem rp2 {ρ A1 A2 : Type} (W : Nat → (ρ → Prop) → A1 → A2 → Prop) (ok : A1 → A2 → Prop) (μ : A1 → A2 → Nat) (val : A1 → A2 → ρ)
    (hs : ∀ (d : Nat) (post : ρ → Prop) (a1 : A1) (a2 : A2), ok a1 a2 → post (val a1 a2) → (∀ (post' : ρ → Prop) (b1 : A1) (b2 : A2), ok b1 b2 → μ b1 b2 < μ a1 a2 → post' (val b1 b2) → W d post' b1 b2) → W (d + 1) post a1 a2) :
    ∀ (d : Nat) (post : ρ → Prop) (a1 : A1) (a2 : A2), ok a1 a2 → μ a1 a2 < d → post (val a1 a2) → W d post a1 a2 := by
  intro d
  induction d with
  | zero => intro post a1 a2 _ h; omega
  | succ d ih =>
    intro post a1 a2 ho hm hp
    exact hs d post a1 a2 ho hp (fun post' b1 b2 ho' hm' hp' => ih post' b1 b2 ho' (by omega) hp')
theorem rp3 {ρ A1 A2 A3 : Type} (W : Nat → (ρ → Prop) → A1 → A2 → A3 → Prop) (ok : A1 → A2 → A3 → Prop) (μ : A1 → A2 → A3 → Nat) (val : A1 → A2 → A3 → ρ)
    (hs : ∀ (d : Nat) (post : ρ → Prop) (a1 : A1) (a2 : A2) (a3 : A3), ok a1 a2 a3 → post (val a1 a2 a3) → (∀ (post' : ρ → Prop) (b1 : A1) (b2 : A2) (b3 : A3), ok b1 b2 b3 → μ b1 b2 b3 < μ a1 a2 a3 → post' (val b1 b2 b3) → W d post' b1 b2 b3) → W (d + 1) post a1 a2 a3) :
    ∀ (d : Nat) (post : ρ → Prop) (a1 : A1) (a2 : A2) (a3 : A3), ok a1 a2 a3 → μ a1 a2 a3 < d → post (val a1 a2 a3) → W d post a1 a2 a3 := by
  intro d
  induction d with
  | zero => intro post a1 a2 a3 _ h; omega
  | succ d ih =>
    intro post a1 a2 a3 ho hm hp
    exact hs d post a1 a2 a3 ho hp (fun post' b1 b2 b3 ho' hm' hp' => ih post' b1 b2 b3 ho' (by omega) hp')
theorem rp4 {ρ A1 A2 A3 A4 : Type} (W : Nat → (ρ → Prop) → A1 → A2 → A3 → A4 → Prop) (ok : A1 → A2 → A3 → A4 → Prop) (μ : A1 → A2 → A3 → A4 → Nat) (val : A1 → A2 → A3 → A4 → ρ)
    (hs : ∀ (d : Nat) (post : ρ → Prop) (a1 : A1) (a2 : A2) (a3 : A3) (a4 : A4), ok a1 a2 a3 a4 → post (val a1 a2 a3 a4) → (∀ (post' : ρ → Prop) (b1 : A1) (b2 : A2) (b3 : A3) (b4 : A4), ok b1 b2 b3 b4 → μ b1 b2 b3 b4 < μ a1 a2 a3 a4 → post' (val b1 b2 b3 b4) → W d post' b1 b2 b3 b4) → W (d + 1) post a1 a2 a3 a4) :
    ∀ (d : Nat) (post : ρ → Prop) (a1 : A1) (a2 : A2) (a3 : A3) (a4 : A4), ok a1 a2 a3 a4 → μ a1 a2 a3 a4 < d → post (val a1 a2 a3 a4) → W d post a1 a2 a3 a4 := by
  intro d
  induction d with
  | zero => intro post a1 a2 a3 a4 _ h; omega
  | succ d ih =>
    intro post a1 a2 a3 a4 ho hm hp
    exact hs d post a1 a2 a3 a4 ho hp (fun post' b1 b2 b3 b4 ho' hm' hp' => ih post' b1 b2 b3 b4 ho' (by omega) hp')
theorem rp5 {ρ A1 A2 A3 A4 A5 : Type} (W : Nat → (ρ → Prop) → A1 → A2 → A3 → A4 → A5 → Prop) (ok : A1 → A2 → A3 → A4 → A5 → Prop) (μ : A1 → A2 → A3 → A4 → A5 → Nat) (val : A1 → A2 → A3 → A4 → A5 → ρ)
    (hs : ∀ (d : Nat) (post : ρ → Prop) (a1 : A1) (a2 : A2) (a3 : A3) (a4 : A4) (a5 : A5), ok a1 a2 a3 a4 a5 → post (val a1 a2 a3 a4 a5) → (∀ (post' : ρ → Prop) (b1 : A1) (b2 : A2) (b3 : A3) (b4 : A4) (b5 : A5), ok b1 b2 b3 b4 b5 → μ b1 b2 b3 b4 b5 < μ a1 a2 a3 a4 a5 → post' (val b1 b2 b3 b4 b5) → W d post' b1 b2 b3 b4 b5) → W (d + 1) post a1 a2 a3 a4 a5) :
    ∀ (d : Nat) (post : ρ → Prop) (a1 : A1) (a2 : A2) (a3 : A3) (a4 : A4) (a5 : A5), ok a1 a2 a3 a4 a5 → μ a1 a2 a3 a4 a5 < d → post (val a1 a2 a3 a4 a5) → W d post a1 a2 a3 a4 a5 := by
  intro d
  induction d with
  | zero => intro post a1 a2 a3 a4 a5 _ h; omega
  | succ d ih =>
    intro post a1 a2 a3 a4 a5 ho hm hp
    exact hs d post a1 a2 a3 a4 a5 ho hp (fun post' b1 b2 b3 b4 b5 ho' hm' hp' => ih post' b1 b2 b3 b4 b5 ho' (by omega) hp')
theorem rp6 {ρ A1 A2 A3 A4 A5 A6 : Type} (W : Nat → (ρ → Prop) → A1 → A2 → A3 → A4 → A5 → A6 → Prop) (ok : A1 → A2 → A3 → A4 → A5 → A6 → Prop) (μ : A1 → A2 → A3 → A4 → A5 → A6 → Nat) (val : A1 → A2 → A3 → A4 → A5 → A6 → ρ)
    (hs : ∀ (d : Nat) (post : ρ → Prop) (a1 : A1) (a2 : A2) (a3 : A3) (a4 : A4) (a5 : A5) (a6 : A6), ok a1 a2 a3 a4 a5 a6 → post (val a1 a2 a3 a4 a5 a6) → (∀ (post' : ρ → Prop) (b1 : A1) (b2 : A2) (b3 : A3) (b4 : A4) (b5 : A5) (b6 : A6), ok b1 b2 b3 b4 b5 b6 → μ b1 b2 b3 b4 b5 b6 < μ a1 a2 a3 a4 a5 a6 → post' (val b1 b2 b3 b4 b5 b6) → W d post' b1 b2 b3 b4 b5 b6) → W (d + 1) post a1 a2 a3 a4 a5 a6) :
    ∀ (d : Nat) (post : ρ → Prop) (a1 : A1) (a2 : A2) (a3 : A3) (a4 : A4) (a5 : A5) (a6 : A6), ok a1 a2 a3 a4 a5 a6 → μ a1 a2 a3 a4 a5 a6 < d → post (val a1 a2 a3 a4 a5 a6) → W d post a1 a2 a3 a4 a5 a6 := by
  intro d
  induction d with
  | zero => intro post a1 a2 a3 a4 a5 a6 _ h; omega
  | succ d ih =>
    intro post a1 a2 a3 a4 a5 a6 ho hm hp
    exact hs d post a1 a2 a3 a4 a5 a6 ho hp (fun post' b1 b2 b3 b4 b5 b6 ho' hm' hp' => ih post' b1 b2 b3 b4 b5 b6 ho' (by omega) hp')
theorem rec_p {σ ρ : Type} (W : Nat → (ρ → Prop) → σ → Prop) (ok : σ → Prop) (μ : σ → Nat) (val : σ → ρ)
    (hs : ∀ d s post, ok s → post (val s) → (∀ s' post', ok s' → μ s' < μ s → post' (val s') → W d post' s') → W (d + 1) post s) :
    ∀ d s post, ok s → μ s < d → post (val s) → W d post s := by
  intro d
  induction d with
  | zero => intro s post _ h; omega
  | succ d ih =>
    intro s post ho hm hp
    exact hs d s post ho hp (fun s' post' ho' hm' hp' => ih s' post' ho' (by omega) hp')
theorem rec_q {σ ρ : Type} (W : Nat → (ρ → Prop) → σ → Prop) (ok : σ → Prop) (μ : σ → Nat) (Q : σ → ρ → Prop)
    (hs : ∀ d s post, ok s → (∀ r, Q s r → post r) → (∀ s' post', ok s' → μ s' < μ s → (∀ r, Q s' r → post' r) → W d post' s') → W (d + 1) post s) :
    ∀ d s post, ok s → μ s < d → (∀ r, Q s r → post r) → W d post s := by
  intro d
  induction d with
  | zero => intro s post _ h; omega
  | succ d ih =>
    intro s post ho hm hp
    exact hs d s post ho hp (fun s' post' ho' hm' hp' => ih s' post' ho' (by omega) hp')
def bx_sum (f : Nat → Int32) : Nat → Int32
  | 0 => 0
  | n + 1 => bx_sum f n + f n
theorem ek_u {A : Prop} {B : Nat → Prop} {k N : Nat} (hk : k < N) (h : B k) : (some k = none → A) ∧ (∀ y : Nat, some k = some y → (y < N ∧ B y)) :=
  ⟨fun z => absurd z (Option.some_ne_none k), fun _ e => (by cases e; exact ⟨hk, h⟩)⟩
theorem ek_nu {A : Prop} {B : Nat → Prop} (h : A) : ((none : Option Nat) = none → A) ∧ (∀ y : Nat, (none : Option Nat) = some y → B y) :=
  ⟨fun _ => h, fun _ e => (by cases e)⟩
theorem ek_if {c d A B : Prop} (e : c ↔ d) (f : d → A) (g : ¬ d → B) : (c → A) ∧ (¬ c → B) :=
  ⟨fun z => f (e.mp z), fun z => g (fun y => z (e.mpr y))⟩
theorem ek_v {α : Sort _} {P : α → Prop} {a b : α} (e : a = b) (h : P b) : P a := e ▸ h
theorem co_some {x : Option Nat} {A : Prop} {B : Nat → Prop} (i : Nat) (h : B i) (hx : x = some i := by rfl) : (x = none → A) ∧ (∀ y : Nat, x = some y → B y) := by
  subst hx
  exact ⟨fun e => (nomatch e), fun y e => Option.some.inj e ▸ h⟩
theorem co_none {x : Option Nat} {A : Prop} {B : Nat → Prop} (h : A) (hx : x = none := by rfl) : (x = none → A) ∧ (∀ y : Nat, x = some y → B y) := by
  subst hx
  exact ⟨fun _ => h, fun y e => (nomatch e)⟩
theorem co_any {x : Option Nat} {A : Prop} {B : Nat → Prop} (hn : x = none → A) (hs : ∀ i : Nat, x = some i → B i) : (x = none → A) ∧ (∀ y : Nat, x = some y → B y) := ⟨hn, hs⟩
theorem co_2 {P : Nat → Prop} (h0 : P 0) (h1 : P 1) {i : Nat} (hi : i < 2) : P i :=
  match i, hi with
  | 0, _ => h0
  | 1, _ => h1
theorem co_3 {P : Nat → Prop} (h0 : P 0) (h1 : P 1) (h2 : P 2) {i : Nat} (hi : i < 3) : P i :=
  match i, hi with
  | 0, _ => h0
  | 1, _ => h1
  | 2, _ => h2
theorem co_4 {P : Nat → Prop} (h0 : P 0) (h1 : P 1) (h2 : P 2) (h3 : P 3) {i : Nat} (hi : i < 4) : P i :=
  match i, hi with
  | 0, _ => h0
  | 1, _ => h1
  | 2, _ => h2
  | 3, _ => h3
theorem co_dec {N : Nat} {P : Nat → Prop} [DecidablePred P] (h : (List.range N).all (fun i => decide (P i)) = true) {i : Nat} (hi : i < N) : P i := by
  have := List.all_eq_true.mp h i (List.mem_range.mpr hi)
  exact of_decide_eq_true this
theorem co_tab {α : Type} {l : List α} {d : α} {P : α → Prop} (h : ∀ a, a ∈ l → P a) {i : Nat} (hi : i < l.length) : P (l.getD i d) := by
  rw [List.getD_eq_getElem?_getD, List.getElem?_eq_getElem hi]
  exact h _ (List.getElem_mem hi)
theorem pk_mu {x : Int32} {L : Nat} (h0 : ¬ x < 0) (h : ¬ nI L ≤ x) (hL : L < 2 ^ 31) : ∃ j : Nat, j < L ∧ x = nI j ∧ x + 1 = nI (j + 1) ∧ x.toNatClampNeg = j ∧ L - (x + 1).toNatClampNeg < L - x.toNatClampNeg := by
  obtain ⟨j, hj, rfl⟩ := nI_of h0
  have hl : j < L := Nat.not_le.mp fun q => h (nI_le q hj)
  refine ⟨j, hl, rfl, nI_1 j, nI_clamp hj, ?_⟩
  rw [nI_1, nI_clamp (by omega), nI_clamp hj]
  omega
theorem op_s {α : Type} {r : Option α} {A : Prop} {B : α → Prop} {y : α} (h : r = some y) (b : B y) : (r = none → A) ∧ ∀ z, r = some z → B z :=
  ⟨fun e => (by rw [h] at e; cases e), fun z e => (by rw [h] at e; cases e; exact b)⟩
def l_holds {α : Type} (a : Nat → Option Nat) (LP : List Nat) (p : Nat → α) (c : Nat) (b : Nat → α) : Prop :=
  ∀ j, j < c → ∃ y, a j = some y ∧ y ∈ LP ∧ p y = b j
theorem l_holds_0 {α : Type} {a : Nat → Option Nat} {LP : List Nat} {p b : Nat → α} : l_holds a LP p 0 b := fun j h => absurd h (Nat.not_lt_zero j)
theorem l_in_new (LP : List Nat) (q : Nat) : q ∈ LP ++ [q] := List.mem_append.mpr (Or.inr (List.mem_singleton.mpr rfl))
def l_sum (b : Nat → Int32) : Nat → Int32
  | 0 => 0
  | k + 1 => l_sum b k + b k
theorem sb_shr0 (x : Int32) : x >>> ((0 : Int32) &&& 31) = x := by
  rw [show ((0 : Int32) &&& 31) = 0 by decide]
  simp
theorem sb_shl0 (x : Int32) : x <<< ((0 : Int32) &&& 31) = x := by
  rw [show ((0 : Int32) &&& 31) = 0 by decide]
  simp
theorem sb_cl0 : (0 : Int32).toNatClampNeg = 0 := by decide
theorem sb_m1 {p : Nat} (h : 0 < p) : nI p + (-1) = nI (p - 1) := by
  obtain ⟨q, rfl⟩ : ∃ q, p = q + 1 := ⟨p - 1, by omega⟩
  exact pk_m1 q
def sb_b (c : Nat) : Int32 := (nI c).toInt8.toInt32
theorem sb_byte : ∀ c, c < 256 → sb_b c &&& 255 = nI c ∧ ((nI c).toUInt32 % 65536).toInt32 = nI c ∧ nI c ≤ 255 := by decide +kernel
def sb_Fit (a : Nat → Int32) : Prop := ∀ j, fits .byte (.int (a j)) = true
def sb_Lat (t : Nat → Nat) (n : Nat) (a : Nat → Int32) : Prop := ∀ j, j < n → t j < 256 ∧ a j = sb_b (t j)
theorem sb_fitB (c : Nat) : fits .byte (.int (sb_b c)) = true := pk_fb _
theorem sb_fit0 : sb_Fit (fun _ => 0) := fun _ => by
  show fits .byte (.int 0) = true
  decide
theorem sb_fitU {a : Nat → Int32} {k : Nat} {x : Int32} (h : sb_Fit a) (hx : fits .byte (.int x) = true) : sb_Fit (upd a k x) := by
  intro j
  by_cases e : j = k
  · subst e
    rw [pk_us]
    exact hx
  · rw [pk_un e]
    exact h j
def sb_cat (t : Nat → Nat) (n : Nat) (s : Nat → Nat) : Nat → Nat := fun j => if j < n then t j else s (j - n)
theorem sb_cat_lo {t s : Nat → Nat} {n j : Nat} (h : j < n) : sb_cat t n s j = t j := if_pos h
theorem sb_cat_hi {t s : Nat → Nat} {n j : Nat} : sb_cat t n s (n + j) = s j := by
  show (if n + j < n then t (n + j) else s (n + j - n)) = s j
  rw [if_neg (by omega), Nat.add_sub_cancel_left]
theorem sb_latPut {t s : Nat → Nat} {n w : Nat} {a a' : Nat → Int32} (h : sb_Lat t n a) (hk : ∀ j, j < n → a' j = a j) (hs : ∀ i, i < w → s i < 256 ∧ a' (n + i) = sb_b (s i)) : sb_Lat (sb_cat t n s) (n + w) a' := by
  intro j hj
  by_cases e : j < n
  · rw [sb_cat_lo e, hk j e]
    exact h j e
  · obtain ⟨i, rfl⟩ : ∃ i, j = n + i := ⟨j - n, by omega⟩
    rw [sb_cat_hi]
    exact hs i (by omega)
theorem sb_latKeep {t : Nat → Nat} {n : Nat} {a a' : Nat → Int32} (h : sb_Lat t n a) (hk : ∀ j, j < n → a' j = a j) : sb_Lat t n a' := fun j hj => by
  rw [hk j hj]
  exact h j hj
def sb_cap (q m : Nat) : Nat := if q ≤ m then m else if 2 * m + 2 < q then q else 2 * m + 2
def sb_Room (q m mc ms : Nat) : Prop := q ≤ m ∨ (1 ≤ mc ∧ sb_cap q m ≤ ms ∧ sb_cap q m ≤ 65536)
theorem sb_cap_ge (q m : Nat) : q ≤ sb_cap q m := by
  unfold sb_cap
  split
  · omega
  · split <;> omega
theorem sb_cap_gem (q m : Nat) : m ≤ sb_cap q m := by
  unfold sb_cap
  split
  · omega
  · split <;> omega
theorem sb_cap_le {q m mc ms : Nat} (hm : m ≤ 65536) (hr : sb_Room q m mc ms) : sb_cap q m ≤ 65536 := by
  rcases hr with h | h
  · rw [sb_cap, if_pos h]
    exact hm
  · exact h.2.2
theorem sb_at {P : Int32 → Prop} {x y : Int32} (e : x = y) (h : P y) : P x := e ▸ h
def sb_dg (w : Nat) : Nat := if w < 10 then 1 else if w < 100 then 2 else if w < 1000 then 3 else if w < 10000 then 4 else if w < 100000 then 5 else if w < 1000000 then 6 else if w < 10000000 then 7 else if w < 100000000 then 8 else if w < 1000000000 then 9 else 10
def sb_dec (v : Nat) : Nat → Nat := fun i => 48 + v / 10 ^ (sb_dg v - 1 - i) % 10
theorem sb_dg_in (w : Nat) : 1 ≤ sb_dg w ∧ sb_dg w ≤ 10 := by
  unfold sb_dg
  constructor <;> (repeat' split) <;> omega
theorem sb_dg100 {w : Nat} (h : 100 ≤ w) (hw : w < 2 ^ 31) : sb_dg w = sb_dg (w / 100) + 2 := by
  rw [sb_dg, sb_dg, if_neg (show ¬ w < 10 by omega), if_neg (show ¬ w < 100 by omega)]
  by_cases h3 : w < 1000
  · rw [if_pos h3, if_pos (show w / 100 < 10 by omega)]
  rw [if_neg h3, if_neg (show ¬ w / 100 < 10 by omega)]
  by_cases h4 : w < 10000
  · rw [if_pos h4, if_pos (show w / 100 < 100 by omega)]
  rw [if_neg h4, if_neg (show ¬ w / 100 < 100 by omega)]
  by_cases h5 : w < 100000
  · rw [if_pos h5, if_pos (show w / 100 < 1000 by omega)]
  rw [if_neg h5, if_neg (show ¬ w / 100 < 1000 by omega)]
  by_cases h6 : w < 1000000
  · rw [if_pos h6, if_pos (show w / 100 < 10000 by omega)]
  rw [if_neg h6, if_neg (show ¬ w / 100 < 10000 by omega)]
  by_cases h7 : w < 10000000
  · rw [if_pos h7, if_pos (show w / 100 < 100000 by omega)]
  rw [if_neg h7, if_neg (show ¬ w / 100 < 100000 by omega)]
  by_cases h8 : w < 100000000
  · rw [if_pos h8, if_pos (show w / 100 < 1000000 by omega)]
  rw [if_neg h8, if_neg (show ¬ w / 100 < 1000000 by omega)]
  by_cases h9 : w < 1000000000
  · rw [if_pos h9, if_pos (show w / 100 < 10000000 by omega)]
  rw [if_neg h9, if_neg (show ¬ w / 100 < 10000000 by omega)]
  rw [if_pos (show w / 100 < 100000000 by omega)]
theorem sb_negT {w : Nat} (h : w < 2 ^ 31) : (-nI w).toInt = -(w : Int) := by
  rw [Int32.toInt_neg, nI_toInt h]
  exact Int.bmod_eq_of_le (by omega) (by omega)
theorem sb_nle {a b : Nat} (ha : a < 2 ^ 31) (hb : b < 2 ^ 31) : -nI a ≤ -nI b ↔ b ≤ a := by
  rw [Int32.le_iff_toInt_le, sb_negT ha, sb_negT hb]
  omega
theorem sb_nlt {a b : Nat} (ha : a < 2 ^ 31) (hb : b < 2 ^ 31) : -nI a < -nI b ↔ b < a := by
  rw [Int32.lt_iff_toInt_lt, sb_negT ha, sb_negT hb]
  omega
theorem sb_cmp {A B : Prop} {x : Int32} (v c : Nat) (f : c ≤ v → A) (g : v < c → B) (hv : v < 2 ^ 31) (hx : x = -nI c := by rfl) (hc : c < 2 ^ 31 := by omega) : (-nI v ≤ x → A) ∧ (¬ -nI v ≤ x → B) := by
  subst hx
  rw [sb_nle hv hc]
  exact ⟨f, fun z => g (by omega)⟩
theorem sb_ndiv {w : Nat} (hw : w < 2 ^ 31) : (-nI w) / 100 = -nI (w / 100) := by
  apply Int32.toInt_inj.mp
  have h100 : (100 : Int32).toInt = 100 := by decide
  rw [Int32.toInt_div, sb_negT hw, h100, sb_negT (by omega), Int.neg_tdiv, Int.tdiv_eq_ediv_of_nonneg (by omega), Int.bmod_eq_of_le (by omega) (by omega)]
  omega
theorem sb_nrem {w : Nat} (hw : w < 2 ^ 31) : (-nI (w / 100)) * 100 - (-nI w) = nI (w % 100) := by
  have h := pk_rem (a := w) (d := 100) hw (by decide) (by decide)
  rw [pk_div hw (by decide) (by decide)] at h
  rw [← h]
  show (-nI (w / 100)) * nI 100 - (-nI w) = nI w - nI (w / 100) * nI 100
  rw [Int32.neg_mul, Int32.sub_neg, Int32.add_comm, ← Int32.sub_eq_add_neg]
end
section
/-! numbers against literals (printed by mklit.py) -/
section
theorem sm_le0 {a : Nat} (ha : a < 2 ^ 31) : (nI a ≤ (0 : Int32)) ↔ a ≤ 0 := nI_leI (b := 0) ha (by decide)
theorem sm_ge0 {a : Nat} (ha : a < 2 ^ 31) : ((0 : Int32) ≤ nI a) ↔ 0 ≤ a := nI_leI (a := 0) (by decide) ha
theorem sm_lt0 {a : Nat} (ha : a < 2 ^ 31) : (nI a < (0 : Int32)) ↔ a < 0 := nI_ltI (b := 0) ha (by decide)
theorem sm_gt0 {a : Nat} (ha : a < 2 ^ 31) : ((0 : Int32) < nI a) ↔ 0 < a := nI_ltI (a := 0) (by decide) ha
theorem sm_eq0 {a : Nat} (ha : a < 2 ^ 31) : (nI a = (0 : Int32)) ↔ a = 0 := nI_eq (b := 0) ha (by decide)
theorem sm_ad0 (a : Nat) : nI a + (0 : Int32) = nI (a + 0) := nI_add a 0
theorem sm_da0 (a : Nat) : (0 : Int32) + nI a = nI (0 + a) := nI_add 0 a
theorem sm_mu0 (a : Nat) : nI a * (0 : Int32) = nI (a * 0) := pk_mul a 0
theorem sm_um0 (a : Nat) : (0 : Int32) * nI a = nI (0 * a) := pk_mul 0 a
theorem sm_sb0 {a : Nat} (h : 0 ≤ a) : nI a - (0 : Int32) = nI (a - 0) := pk_sub (b := 0) h
theorem sm_le1 {a : Nat} (ha : a < 2 ^ 31) : (nI a ≤ (1 : Int32)) ↔ a ≤ 1 := nI_leI (b := 1) ha (by decide)
theorem sm_ge1 {a : Nat} (ha : a < 2 ^ 31) : ((1 : Int32) ≤ nI a) ↔ 1 ≤ a := nI_leI (a := 1) (by decide) ha
theorem sm_lt1 {a : Nat} (ha : a < 2 ^ 31) : (nI a < (1 : Int32)) ↔ a < 1 := nI_ltI (b := 1) ha (by decide)
theorem sm_gt1 {a : Nat} (ha : a < 2 ^ 31) : ((1 : Int32) < nI a) ↔ 1 < a := nI_ltI (a := 1) (by decide) ha
theorem sm_eq1 {a : Nat} (ha : a < 2 ^ 31) : (nI a = (1 : Int32)) ↔ a = 1 := nI_eq (b := 1) ha (by decide)
theorem sm_ad1 (a : Nat) : nI a + (1 : Int32) = nI (a + 1) := nI_add a 1
theorem sm_da1 (a : Nat) : (1 : Int32) + nI a = nI (1 + a) := nI_add 1 a
theorem sm_mu1 (a : Nat) : nI a * (1 : Int32) = nI (a * 1) := pk_mul a 1
theorem sm_um1 (a : Nat) : (1 : Int32) * nI a = nI (1 * a) := pk_mul 1 a
theorem sm_sb1 {a : Nat} (h : 1 ≤ a) : nI a - (1 : Int32) = nI (a - 1) := pk_sub (b := 1) h
theorem sm_le2 {a : Nat} (ha : a < 2 ^ 31) : (nI a ≤ (2 : Int32)) ↔ a ≤ 2 := nI_leI (b := 2) ha (by decide)
theorem sm_ge2 {a : Nat} (ha : a < 2 ^ 31) : ((2 : Int32) ≤ nI a) ↔ 2 ≤ a := nI_leI (a := 2) (by decide) ha
theorem sm_lt2 {a : Nat} (ha : a < 2 ^ 31) : (nI a < (2 : Int32)) ↔ a < 2 := nI_ltI (b := 2) ha (by decide)
theorem sm_gt2 {a : Nat} (ha : a < 2 ^ 31) : ((2 : Int32) < nI a) ↔ 2 < a := nI_ltI (a := 2) (by decide) ha
theorem sm_eq2 {a : Nat} (ha : a < 2 ^ 31) : (nI a = (2 : Int32)) ↔ a = 2 := nI_eq (b := 2) ha (by decide)
theorem sm_ad2 (a : Nat) : nI a + (2 : Int32) = nI (a + 2) := nI_add a 2
theorem sm_da2 (a : Nat) : (2 : Int32) + nI a = nI (2 + a) := nI_add 2 a
theorem sm_mu2 (a : Nat) : nI a * (2 : Int32) = nI (a * 2) := pk_mul a 2
theorem sm_um2 (a : Nat) : (2 : Int32) * nI a = nI (2 * a) := pk_mul 2 a
theorem sm_sb2 {a : Nat} (h : 2 ≤ a) : nI a - (2 : Int32) = nI (a - 2) := pk_sub (b := 2) h
theorem sm_le3 {a : Nat} (ha : a < 2 ^ 31) : (nI a ≤ (3 : Int32)) ↔ a ≤ 3 := nI_leI (b := 3) ha (by decide)
theorem sm_ge3 {a : Nat} (ha : a < 2 ^ 31) : ((3 : Int32) ≤ nI a) ↔ 3 ≤ a := nI_leI (a := 3) (by decide) ha
theorem sm_lt3 {a : Nat} (ha : a < 2 ^ 31) : (nI a < (3 : Int32)) ↔ a < 3 := nI_ltI (b := 3) ha (by decide)
theorem sm_gt3 {a : Nat} (ha : a < 2 ^ 31) : ((3 : Int32) < nI a) ↔ 3 < a := nI_ltI (a := 3) (by decide) ha
theorem sm_eq3 {a : Nat} (ha : a < 2 ^ 31) : (nI a = (3 : Int32)) ↔ a = 3 := nI_eq (b := 3) ha (by decide)
theorem sm_ad3 (a : Nat) : nI a + (3 : Int32) = nI (a + 3) := nI_add a 3
theorem sm_da3 (a : Nat) : (3 : Int32) + nI a = nI (3 + a) := nI_add 3 a
theorem sm_mu3 (a : Nat) : nI a * (3 : Int32) = nI (a * 3) := pk_mul a 3
theorem sm_um3 (a : Nat) : (3 : Int32) * nI a = nI (3 * a) := pk_mul 3 a
theorem sm_sb3 {a : Nat} (h : 3 ≤ a) : nI a - (3 : Int32) = nI (a - 3) := pk_sub (b := 3) h
theorem sm_le4 {a : Nat} (ha : a < 2 ^ 31) : (nI a ≤ (4 : Int32)) ↔ a ≤ 4 := nI_leI (b := 4) ha (by decide)
theorem sm_ge4 {a : Nat} (ha : a < 2 ^ 31) : ((4 : Int32) ≤ nI a) ↔ 4 ≤ a := nI_leI (a := 4) (by decide) ha
theorem sm_lt4 {a : Nat} (ha : a < 2 ^ 31) : (nI a < (4 : Int32)) ↔ a < 4 := nI_ltI (b := 4) ha (by decide)
theorem sm_gt4 {a : Nat} (ha : a < 2 ^ 31) : ((4 : Int32) < nI a) ↔ 4 < a := nI_ltI (a := 4) (by decide) ha
theorem sm_eq4 {a : Nat} (ha : a < 2 ^ 31) : (nI a = (4 : Int32)) ↔ a = 4 := nI_eq (b := 4) ha (by decide)
theorem sm_ad4 (a : Nat) : nI a + (4 : Int32) = nI (a + 4) := nI_add a 4
theorem sm_da4 (a : Nat) : (4 : Int32) + nI a = nI (4 + a) := nI_add 4 a
theorem sm_mu4 (a : Nat) : nI a * (4 : Int32) = nI (a * 4) := pk_mul a 4
theorem sm_um4 (a : Nat) : (4 : Int32) * nI a = nI (4 * a) := pk_mul 4 a
theorem sm_sb4 {a : Nat} (h : 4 ≤ a) : nI a - (4 : Int32) = nI (a - 4) := pk_sub (b := 4) h
theorem sm_le5 {a : Nat} (ha : a < 2 ^ 31) : (nI a ≤ (5 : Int32)) ↔ a ≤ 5 := nI_leI (b := 5) ha (by decide)
theorem sm_ge5 {a : Nat} (ha : a < 2 ^ 31) : ((5 : Int32) ≤ nI a) ↔ 5 ≤ a := nI_leI (a := 5) (by decide) ha
theorem sm_lt5 {a : Nat} (ha : a < 2 ^ 31) : (nI a < (5 : Int32)) ↔ a < 5 := nI_ltI (b := 5) ha (by decide)
theorem sm_gt5 {a : Nat} (ha : a < 2 ^ 31) : ((5 : Int32) < nI a) ↔ 5 < a := nI_ltI (a := 5) (by decide) ha
theorem sm_eq5 {a : Nat} (ha : a < 2 ^ 31) : (nI a = (5 : Int32)) ↔ a = 5 := nI_eq (b := 5) ha (by decide)
theorem sm_ad5 (a : Nat) : nI a + (5 : Int32) = nI (a + 5) := nI_add a 5
theorem sm_da5 (a : Nat) : (5 : Int32) + nI a = nI (5 + a) := nI_add 5 a
theorem sm_mu5 (a : Nat) : nI a * (5 : Int32) = nI (a * 5) := pk_mul a 5
theorem sm_um5 (a : Nat) : (5 : Int32) * nI a = nI (5 * a) := pk_mul 5 a
theorem sm_sb5 {a : Nat} (h : 5 ≤ a) : nI a - (5 : Int32) = nI (a - 5) := pk_sub (b := 5) h
theorem sm_le6 {a : Nat} (ha : a < 2 ^ 31) : (nI a ≤ (6 : Int32)) ↔ a ≤ 6 := nI_leI (b := 6) ha (by decide)
theorem sm_ge6 {a : Nat} (ha : a < 2 ^ 31) : ((6 : Int32) ≤ nI a) ↔ 6 ≤ a := nI_leI (a := 6) (by decide) ha
theorem sm_lt6 {a : Nat} (ha : a < 2 ^ 31) : (nI a < (6 : Int32)) ↔ a < 6 := nI_ltI (b := 6) ha (by decide)
theorem sm_gt6 {a : Nat} (ha : a < 2 ^ 31) : ((6 : Int32) < nI a) ↔ 6 < a := nI_ltI (a := 6) (by decide) ha
theorem sm_eq6 {a : Nat} (ha : a < 2 ^ 31) : (nI a = (6 : Int32)) ↔ a = 6 := nI_eq (b := 6) ha (by decide)
theorem sm_ad6 (a : Nat) : nI a + (6 : Int32) = nI (a + 6) := nI_add a 6
theorem sm_da6 (a : Nat) : (6 : Int32) + nI a = nI (6 + a) := nI_add 6 a
theorem sm_mu6 (a : Nat) : nI a * (6 : Int32) = nI (a * 6) := pk_mul a 6
theorem sm_um6 (a : Nat) : (6 : Int32) * nI a = nI (6 * a) := pk_mul 6 a
theorem sm_sb6 {a : Nat} (h : 6 ≤ a) : nI a - (6 : Int32) = nI (a - 6) := pk_sub (b := 6) h
theorem sm_le7 {a : Nat} (ha : a < 2 ^ 31) : (nI a ≤ (7 : Int32)) ↔ a ≤ 7 := nI_leI (b := 7) ha (by decide)
theorem sm_ge7 {a : Nat} (ha : a < 2 ^ 31) : ((7 : Int32) ≤ nI a) ↔ 7 ≤ a := nI_leI (a := 7) (by decide) ha
theorem sm_lt7 {a : Nat} (ha : a < 2 ^ 31) : (nI a < (7 : Int32)) ↔ a < 7 := nI_ltI (b := 7) ha (by decide)
theorem sm_gt7 {a : Nat} (ha : a < 2 ^ 31) : ((7 : Int32) < nI a) ↔ 7 < a := nI_ltI (a := 7) (by decide) ha
theorem sm_eq7 {a : Nat} (ha : a < 2 ^ 31) : (nI a = (7 : Int32)) ↔ a = 7 := nI_eq (b := 7) ha (by decide)
theorem sm_ad7 (a : Nat) : nI a + (7 : Int32) = nI (a + 7) := nI_add a 7
theorem sm_da7 (a : Nat) : (7 : Int32) + nI a = nI (7 + a) := nI_add 7 a
theorem sm_mu7 (a : Nat) : nI a * (7 : Int32) = nI (a * 7) := pk_mul a 7
theorem sm_um7 (a : Nat) : (7 : Int32) * nI a = nI (7 * a) := pk_mul 7 a
theorem sm_sb7 {a : Nat} (h : 7 ≤ a) : nI a - (7 : Int32) = nI (a - 7) := pk_sub (b := 7) h
theorem sm_le8 {a : Nat} (ha : a < 2 ^ 31) : (nI a ≤ (8 : Int32)) ↔ a ≤ 8 := nI_leI (b := 8) ha (by decide)
theorem sm_ge8 {a : Nat} (ha : a < 2 ^ 31) : ((8 : Int32) ≤ nI a) ↔ 8 ≤ a := nI_leI (a := 8) (by decide) ha
theorem sm_lt8 {a : Nat} (ha : a < 2 ^ 31) : (nI a < (8 : Int32)) ↔ a < 8 := nI_ltI (b := 8) ha (by decide)
theorem sm_gt8 {a : Nat} (ha : a < 2 ^ 31) : ((8 : Int32) < nI a) ↔ 8 < a := nI_ltI (a := 8) (by decide) ha
theorem sm_eq8 {a : Nat} (ha : a < 2 ^ 31) : (nI a = (8 : Int32)) ↔ a = 8 := nI_eq (b := 8) ha (by decide)
theorem sm_ad8 (a : Nat) : nI a + (8 : Int32) = nI (a + 8) := nI_add a 8
theorem sm_da8 (a : Nat) : (8 : Int32) + nI a = nI (8 + a) := nI_add 8 a
theorem sm_mu8 (a : Nat) : nI a * (8 : Int32) = nI (a * 8) := pk_mul a 8
theorem sm_um8 (a : Nat) : (8 : Int32) * nI a = nI (8 * a) := pk_mul 8 a
theorem sm_sb8 {a : Nat} (h : 8 ≤ a) : nI a - (8 : Int32) = nI (a - 8) := pk_sub (b := 8) h
theorem sm_le9 {a : Nat} (ha : a < 2 ^ 31) : (nI a ≤ (9 : Int32)) ↔ a ≤ 9 := nI_leI (b := 9) ha (by decide)
theorem sm_ge9 {a : Nat} (ha : a < 2 ^ 31) : ((9 : Int32) ≤ nI a) ↔ 9 ≤ a := nI_leI (a := 9) (by decide) ha
theorem sm_lt9 {a : Nat} (ha : a < 2 ^ 31) : (nI a < (9 : Int32)) ↔ a < 9 := nI_ltI (b := 9) ha (by decide)
theorem sm_gt9 {a : Nat} (ha : a < 2 ^ 31) : ((9 : Int32) < nI a) ↔ 9 < a := nI_ltI (a := 9) (by decide) ha
theorem sm_eq9 {a : Nat} (ha : a < 2 ^ 31) : (nI a = (9 : Int32)) ↔ a = 9 := nI_eq (b := 9) ha (by decide)
theorem sm_ad9 (a : Nat) : nI a + (9 : Int32) = nI (a + 9) := nI_add a 9
theorem sm_da9 (a : Nat) : (9 : Int32) + nI a = nI (9 + a) := nI_add 9 a
theorem sm_mu9 (a : Nat) : nI a * (9 : Int32) = nI (a * 9) := pk_mul a 9
theorem sm_um9 (a : Nat) : (9 : Int32) * nI a = nI (9 * a) := pk_mul 9 a
theorem sm_sb9 {a : Nat} (h : 9 ≤ a) : nI a - (9 : Int32) = nI (a - 9) := pk_sub (b := 9) h
theorem sm_le10 {a : Nat} (ha : a < 2 ^ 31) : (nI a ≤ (10 : Int32)) ↔ a ≤ 10 := nI_leI (b := 10) ha (by decide)
theorem sm_ge10 {a : Nat} (ha : a < 2 ^ 31) : ((10 : Int32) ≤ nI a) ↔ 10 ≤ a := nI_leI (a := 10) (by decide) ha
theorem sm_lt10 {a : Nat} (ha : a < 2 ^ 31) : (nI a < (10 : Int32)) ↔ a < 10 := nI_ltI (b := 10) ha (by decide)
theorem sm_gt10 {a : Nat} (ha : a < 2 ^ 31) : ((10 : Int32) < nI a) ↔ 10 < a := nI_ltI (a := 10) (by decide) ha
theorem sm_eq10 {a : Nat} (ha : a < 2 ^ 31) : (nI a = (10 : Int32)) ↔ a = 10 := nI_eq (b := 10) ha (by decide)
theorem sm_ad10 (a : Nat) : nI a + (10 : Int32) = nI (a + 10) := nI_add a 10
theorem sm_da10 (a : Nat) : (10 : Int32) + nI a = nI (10 + a) := nI_add 10 a
theorem sm_mu10 (a : Nat) : nI a * (10 : Int32) = nI (a * 10) := pk_mul a 10
theorem sm_um10 (a : Nat) : (10 : Int32) * nI a = nI (10 * a) := pk_mul 10 a
theorem sm_sb10 {a : Nat} (h : 10 ≤ a) : nI a - (10 : Int32) = nI (a - 10) := pk_sub (b := 10) h
theorem sm_le11 {a : Nat} (ha : a < 2 ^ 31) : (nI a ≤ (11 : Int32)) ↔ a ≤ 11 := nI_leI (b := 11) ha (by decide)
theorem sm_ge11 {a : Nat} (ha : a < 2 ^ 31) : ((11 : Int32) ≤ nI a) ↔ 11 ≤ a := nI_leI (a := 11) (by decide) ha
theorem sm_lt11 {a : Nat} (ha : a < 2 ^ 31) : (nI a < (11 : Int32)) ↔ a < 11 := nI_ltI (b := 11) ha (by decide)
theorem sm_gt11 {a : Nat} (ha : a < 2 ^ 31) : ((11 : Int32) < nI a) ↔ 11 < a := nI_ltI (a := 11) (by decide) ha
theorem sm_eq11 {a : Nat} (ha : a < 2 ^ 31) : (nI a = (11 : Int32)) ↔ a = 11 := nI_eq (b := 11) ha (by decide)
theorem sm_ad11 (a : Nat) : nI a + (11 : Int32) = nI (a + 11) := nI_add a 11
theorem sm_da11 (a : Nat) : (11 : Int32) + nI a = nI (11 + a) := nI_add 11 a
theorem sm_mu11 (a : Nat) : nI a * (11 : Int32) = nI (a * 11) := pk_mul a 11
theorem sm_um11 (a : Nat) : (11 : Int32) * nI a = nI (11 * a) := pk_mul 11 a
theorem sm_sb11 {a : Nat} (h : 11 ≤ a) : nI a - (11 : Int32) = nI (a - 11) := pk_sub (b := 11) h
theorem sm_le12 {a : Nat} (ha : a < 2 ^ 31) : (nI a ≤ (12 : Int32)) ↔ a ≤ 12 := nI_leI (b := 12) ha (by decide)
theorem sm_ge12 {a : Nat} (ha : a < 2 ^ 31) : ((12 : Int32) ≤ nI a) ↔ 12 ≤ a := nI_leI (a := 12) (by decide) ha
theorem sm_lt12 {a : Nat} (ha : a < 2 ^ 31) : (nI a < (12 : Int32)) ↔ a < 12 := nI_ltI (b := 12) ha (by decide)
theorem sm_gt12 {a : Nat} (ha : a < 2 ^ 31) : ((12 : Int32) < nI a) ↔ 12 < a := nI_ltI (a := 12) (by decide) ha
theorem sm_eq12 {a : Nat} (ha : a < 2 ^ 31) : (nI a = (12 : Int32)) ↔ a = 12 := nI_eq (b := 12) ha (by decide)
theorem sm_ad12 (a : Nat) : nI a + (12 : Int32) = nI (a + 12) := nI_add a 12
theorem sm_da12 (a : Nat) : (12 : Int32) + nI a = nI (12 + a) := nI_add 12 a
theorem sm_mu12 (a : Nat) : nI a * (12 : Int32) = nI (a * 12) := pk_mul a 12
theorem sm_um12 (a : Nat) : (12 : Int32) * nI a = nI (12 * a) := pk_mul 12 a
theorem sm_sb12 {a : Nat} (h : 12 ≤ a) : nI a - (12 : Int32) = nI (a - 12) := pk_sub (b := 12) h
theorem sm_le13 {a : Nat} (ha : a < 2 ^ 31) : (nI a ≤ (13 : Int32)) ↔ a ≤ 13 := nI_leI (b := 13) ha (by decide)
theorem sm_ge13 {a : Nat} (ha : a < 2 ^ 31) : ((13 : Int32) ≤ nI a) ↔ 13 ≤ a := nI_leI (a := 13) (by decide) ha
theorem sm_lt13 {a : Nat} (ha : a < 2 ^ 31) : (nI a < (13 : Int32)) ↔ a < 13 := nI_ltI (b := 13) ha (by decide)
theorem sm_gt13 {a : Nat} (ha : a < 2 ^ 31) : ((13 : Int32) < nI a) ↔ 13 < a := nI_ltI (a := 13) (by decide) ha
theorem sm_eq13 {a : Nat} (ha : a < 2 ^ 31) : (nI a = (13 : Int32)) ↔ a = 13 := nI_eq (b := 13) ha (by decide)
theorem sm_ad13 (a : Nat) : nI a + (13 : Int32) = nI (a + 13) := nI_add a 13
theorem sm_da13 (a : Nat) : (13 : Int32) + nI a = nI (13 + a) := nI_add 13 a
theorem sm_mu13 (a : Nat) : nI a * (13 : Int32) = nI (a * 13) := pk_mul a 13
theorem sm_um13 (a : Nat) : (13 : Int32) * nI a = nI (13 * a) := pk_mul 13 a
theorem sm_sb13 {a : Nat} (h : 13 ≤ a) : nI a - (13 : Int32) = nI (a - 13) := pk_sub (b := 13) h
theorem sm_le14 {a : Nat} (ha : a < 2 ^ 31) : (nI a ≤ (14 : Int32)) ↔ a ≤ 14 := nI_leI (b := 14) ha (by decide)
theorem sm_ge14 {a : Nat} (ha : a < 2 ^ 31) : ((14 : Int32) ≤ nI a) ↔ 14 ≤ a := nI_leI (a := 14) (by decide) ha
theorem sm_lt14 {a : Nat} (ha : a < 2 ^ 31) : (nI a < (14 : Int32)) ↔ a < 14 := nI_ltI (b := 14) ha (by decide)
theorem sm_gt14 {a : Nat} (ha : a < 2 ^ 31) : ((14 : Int32) < nI a) ↔ 14 < a := nI_ltI (a := 14) (by decide) ha
theorem sm_eq14 {a : Nat} (ha : a < 2 ^ 31) : (nI a = (14 : Int32)) ↔ a = 14 := nI_eq (b := 14) ha (by decide)
theorem sm_ad14 (a : Nat) : nI a + (14 : Int32) = nI (a + 14) := nI_add a 14
theorem sm_da14 (a : Nat) : (14 : Int32) + nI a = nI (14 + a) := nI_add 14 a
theorem sm_mu14 (a : Nat) : nI a * (14 : Int32) = nI (a * 14) := pk_mul a 14
theorem sm_um14 (a : Nat) : (14 : Int32) * nI a = nI (14 * a) := pk_mul 14 a
theorem sm_sb14 {a : Nat} (h : 14 ≤ a) : nI a - (14 : Int32) = nI (a - 14) := pk_sub (b := 14) h
theorem sm_le15 {a : Nat} (ha : a < 2 ^ 31) : (nI a ≤ (15 : Int32)) ↔ a ≤ 15 := nI_leI (b := 15) ha (by decide)
theorem sm_ge15 {a : Nat} (ha : a < 2 ^ 31) : ((15 : Int32) ≤ nI a) ↔ 15 ≤ a := nI_leI (a := 15) (by decide) ha
theorem sm_lt15 {a : Nat} (ha : a < 2 ^ 31) : (nI a < (15 : Int32)) ↔ a < 15 := nI_ltI (b := 15) ha (by decide)
theorem sm_gt15 {a : Nat} (ha : a < 2 ^ 31) : ((15 : Int32) < nI a) ↔ 15 < a := nI_ltI (a := 15) (by decide) ha
theorem sm_eq15 {a : Nat} (ha : a < 2 ^ 31) : (nI a = (15 : Int32)) ↔ a = 15 := nI_eq (b := 15) ha (by decide)
theorem sm_ad15 (a : Nat) : nI a + (15 : Int32) = nI (a + 15) := nI_add a 15
theorem sm_da15 (a : Nat) : (15 : Int32) + nI a = nI (15 + a) := nI_add 15 a
theorem sm_mu15 (a : Nat) : nI a * (15 : Int32) = nI (a * 15) := pk_mul a 15
theorem sm_um15 (a : Nat) : (15 : Int32) * nI a = nI (15 * a) := pk_mul 15 a
theorem sm_sb15 {a : Nat} (h : 15 ≤ a) : nI a - (15 : Int32) = nI (a - 15) := pk_sub (b := 15) h
theorem sm_le16 {a : Nat} (ha : a < 2 ^ 31) : (nI a ≤ (16 : Int32)) ↔ a ≤ 16 := nI_leI (b := 16) ha (by decide)
theorem sm_ge16 {a : Nat} (ha : a < 2 ^ 31) : ((16 : Int32) ≤ nI a) ↔ 16 ≤ a := nI_leI (a := 16) (by decide) ha
theorem sm_lt16 {a : Nat} (ha : a < 2 ^ 31) : (nI a < (16 : Int32)) ↔ a < 16 := nI_ltI (b := 16) ha (by decide)
theorem sm_gt16 {a : Nat} (ha : a < 2 ^ 31) : ((16 : Int32) < nI a) ↔ 16 < a := nI_ltI (a := 16) (by decide) ha
theorem sm_eq16 {a : Nat} (ha : a < 2 ^ 31) : (nI a = (16 : Int32)) ↔ a = 16 := nI_eq (b := 16) ha (by decide)
theorem sm_ad16 (a : Nat) : nI a + (16 : Int32) = nI (a + 16) := nI_add a 16
theorem sm_da16 (a : Nat) : (16 : Int32) + nI a = nI (16 + a) := nI_add 16 a
theorem sm_mu16 (a : Nat) : nI a * (16 : Int32) = nI (a * 16) := pk_mul a 16
theorem sm_um16 (a : Nat) : (16 : Int32) * nI a = nI (16 * a) := pk_mul 16 a
theorem sm_sb16 {a : Nat} (h : 16 ≤ a) : nI a - (16 : Int32) = nI (a - 16) := pk_sub (b := 16) h
theorem sm_le17 {a : Nat} (ha : a < 2 ^ 31) : (nI a ≤ (17 : Int32)) ↔ a ≤ 17 := nI_leI (b := 17) ha (by decide)
theorem sm_ge17 {a : Nat} (ha : a < 2 ^ 31) : ((17 : Int32) ≤ nI a) ↔ 17 ≤ a := nI_leI (a := 17) (by decide) ha
theorem sm_lt17 {a : Nat} (ha : a < 2 ^ 31) : (nI a < (17 : Int32)) ↔ a < 17 := nI_ltI (b := 17) ha (by decide)
theorem sm_gt17 {a : Nat} (ha : a < 2 ^ 31) : ((17 : Int32) < nI a) ↔ 17 < a := nI_ltI (a := 17) (by decide) ha
theorem sm_eq17 {a : Nat} (ha : a < 2 ^ 31) : (nI a = (17 : Int32)) ↔ a = 17 := nI_eq (b := 17) ha (by decide)
theorem sm_ad17 (a : Nat) : nI a + (17 : Int32) = nI (a + 17) := nI_add a 17
theorem sm_da17 (a : Nat) : (17 : Int32) + nI a = nI (17 + a) := nI_add 17 a
theorem sm_mu17 (a : Nat) : nI a * (17 : Int32) = nI (a * 17) := pk_mul a 17
theorem sm_um17 (a : Nat) : (17 : Int32) * nI a = nI (17 * a) := pk_mul 17 a
theorem sm_sb17 {a : Nat} (h : 17 ≤ a) : nI a - (17 : Int32) = nI (a - 17) := pk_sub (b := 17) h
theorem sm_le18 {a : Nat} (ha : a < 2 ^ 31) : (nI a ≤ (18 : Int32)) ↔ a ≤ 18 := nI_leI (b := 18) ha (by decide)
theorem sm_ge18 {a : Nat} (ha : a < 2 ^ 31) : ((18 : Int32) ≤ nI a) ↔ 18 ≤ a := nI_leI (a := 18) (by decide) ha
theorem sm_lt18 {a : Nat} (ha : a < 2 ^ 31) : (nI a < (18 : Int32)) ↔ a < 18 := nI_ltI (b := 18) ha (by decide)
theorem sm_gt18 {a : Nat} (ha : a < 2 ^ 31) : ((18 : Int32) < nI a) ↔ 18 < a := nI_ltI (a := 18) (by decide) ha
theorem sm_eq18 {a : Nat} (ha : a < 2 ^ 31) : (nI a = (18 : Int32)) ↔ a = 18 := nI_eq (b := 18) ha (by decide)
theorem sm_ad18 (a : Nat) : nI a + (18 : Int32) = nI (a + 18) := nI_add a 18
theorem sm_da18 (a : Nat) : (18 : Int32) + nI a = nI (18 + a) := nI_add 18 a
theorem sm_mu18 (a : Nat) : nI a * (18 : Int32) = nI (a * 18) := pk_mul a 18
theorem sm_um18 (a : Nat) : (18 : Int32) * nI a = nI (18 * a) := pk_mul 18 a
theorem sm_sb18 {a : Nat} (h : 18 ≤ a) : nI a - (18 : Int32) = nI (a - 18) := pk_sub (b := 18) h
theorem sm_le19 {a : Nat} (ha : a < 2 ^ 31) : (nI a ≤ (19 : Int32)) ↔ a ≤ 19 := nI_leI (b := 19) ha (by decide)
theorem sm_ge19 {a : Nat} (ha : a < 2 ^ 31) : ((19 : Int32) ≤ nI a) ↔ 19 ≤ a := nI_leI (a := 19) (by decide) ha
theorem sm_lt19 {a : Nat} (ha : a < 2 ^ 31) : (nI a < (19 : Int32)) ↔ a < 19 := nI_ltI (b := 19) ha (by decide)
theorem sm_gt19 {a : Nat} (ha : a < 2 ^ 31) : ((19 : Int32) < nI a) ↔ 19 < a := nI_ltI (a := 19) (by decide) ha
theorem sm_eq19 {a : Nat} (ha : a < 2 ^ 31) : (nI a = (19 : Int32)) ↔ a = 19 := nI_eq (b := 19) ha (by decide)
theorem sm_ad19 (a : Nat) : nI a + (19 : Int32) = nI (a + 19) := nI_add a 19
theorem sm_da19 (a : Nat) : (19 : Int32) + nI a = nI (19 + a) := nI_add 19 a
theorem sm_mu19 (a : Nat) : nI a * (19 : Int32) = nI (a * 19) := pk_mul a 19
theorem sm_um19 (a : Nat) : (19 : Int32) * nI a = nI (19 * a) := pk_mul 19 a
theorem sm_sb19 {a : Nat} (h : 19 ≤ a) : nI a - (19 : Int32) = nI (a - 19) := pk_sub (b := 19) h
theorem sm_le20 {a : Nat} (ha : a < 2 ^ 31) : (nI a ≤ (20 : Int32)) ↔ a ≤ 20 := nI_leI (b := 20) ha (by decide)
theorem sm_ge20 {a : Nat} (ha : a < 2 ^ 31) : ((20 : Int32) ≤ nI a) ↔ 20 ≤ a := nI_leI (a := 20) (by decide) ha
theorem sm_lt20 {a : Nat} (ha : a < 2 ^ 31) : (nI a < (20 : Int32)) ↔ a < 20 := nI_ltI (b := 20) ha (by decide)
theorem sm_gt20 {a : Nat} (ha : a < 2 ^ 31) : ((20 : Int32) < nI a) ↔ 20 < a := nI_ltI (a := 20) (by decide) ha
theorem sm_eq20 {a : Nat} (ha : a < 2 ^ 31) : (nI a = (20 : Int32)) ↔ a = 20 := nI_eq (b := 20) ha (by decide)
theorem sm_ad20 (a : Nat) : nI a + (20 : Int32) = nI (a + 20) := nI_add a 20
theorem sm_da20 (a : Nat) : (20 : Int32) + nI a = nI (20 + a) := nI_add 20 a
theorem sm_mu20 (a : Nat) : nI a * (20 : Int32) = nI (a * 20) := pk_mul a 20
theorem sm_um20 (a : Nat) : (20 : Int32) * nI a = nI (20 * a) := pk_mul 20 a
theorem sm_sb20 {a : Nat} (h : 20 ≤ a) : nI a - (20 : Int32) = nI (a - 20) := pk_sub (b := 20) h
theorem sm_le21 {a : Nat} (ha : a < 2 ^ 31) : (nI a ≤ (21 : Int32)) ↔ a ≤ 21 := nI_leI (b := 21) ha (by decide)
theorem sm_ge21 {a : Nat} (ha : a < 2 ^ 31) : ((21 : Int32) ≤ nI a) ↔ 21 ≤ a := nI_leI (a := 21) (by decide) ha
theorem sm_lt21 {a : Nat} (ha : a < 2 ^ 31) : (nI a < (21 : Int32)) ↔ a < 21 := nI_ltI (b := 21) ha (by decide)
theorem sm_gt21 {a : Nat} (ha : a < 2 ^ 31) : ((21 : Int32) < nI a) ↔ 21 < a := nI_ltI (a := 21) (by decide) ha
theorem sm_eq21 {a : Nat} (ha : a < 2 ^ 31) : (nI a = (21 : Int32)) ↔ a = 21 := nI_eq (b := 21) ha (by decide)
theorem sm_ad21 (a : Nat) : nI a + (21 : Int32) = nI (a + 21) := nI_add a 21
theorem sm_da21 (a : Nat) : (21 : Int32) + nI a = nI (21 + a) := nI_add 21 a
theorem sm_mu21 (a : Nat) : nI a * (21 : Int32) = nI (a * 21) := pk_mul a 21
theorem sm_um21 (a : Nat) : (21 : Int32) * nI a = nI (21 * a) := pk_mul 21 a
theorem sm_sb21 {a : Nat} (h : 21 ≤ a) : nI a - (21 : Int32) = nI (a - 21) := pk_sub (b := 21) h
theorem sm_le22 {a : Nat} (ha : a < 2 ^ 31) : (nI a ≤ (22 : Int32)) ↔ a ≤ 22 := nI_leI (b := 22) ha (by decide)
theorem sm_ge22 {a : Nat} (ha : a < 2 ^ 31) : ((22 : Int32) ≤ nI a) ↔ 22 ≤ a := nI_leI (a := 22) (by decide) ha
theorem sm_lt22 {a : Nat} (ha : a < 2 ^ 31) : (nI a < (22 : Int32)) ↔ a < 22 := nI_ltI (b := 22) ha (by decide)
theorem sm_gt22 {a : Nat} (ha : a < 2 ^ 31) : ((22 : Int32) < nI a) ↔ 22 < a := nI_ltI (a := 22) (by decide) ha
theorem sm_eq22 {a : Nat} (ha : a < 2 ^ 31) : (nI a = (22 : Int32)) ↔ a = 22 := nI_eq (b := 22) ha (by decide)
theorem sm_ad22 (a : Nat) : nI a + (22 : Int32) = nI (a + 22) := nI_add a 22
theorem sm_da22 (a : Nat) : (22 : Int32) + nI a = nI (22 + a) := nI_add 22 a
theorem sm_mu22 (a : Nat) : nI a * (22 : Int32) = nI (a * 22) := pk_mul a 22
theorem sm_um22 (a : Nat) : (22 : Int32) * nI a = nI (22 * a) := pk_mul 22 a
theorem sm_sb22 {a : Nat} (h : 22 ≤ a) : nI a - (22 : Int32) = nI (a - 22) := pk_sub (b := 22) h
theorem sm_le23 {a : Nat} (ha : a < 2 ^ 31) : (nI a ≤ (23 : Int32)) ↔ a ≤ 23 := nI_leI (b := 23) ha (by decide)
theorem sm_ge23 {a : Nat} (ha : a < 2 ^ 31) : ((23 : Int32) ≤ nI a) ↔ 23 ≤ a := nI_leI (a := 23) (by decide) ha
theorem sm_lt23 {a : Nat} (ha : a < 2 ^ 31) : (nI a < (23 : Int32)) ↔ a < 23 := nI_ltI (b := 23) ha (by decide)
theorem sm_gt23 {a : Nat} (ha : a < 2 ^ 31) : ((23 : Int32) < nI a) ↔ 23 < a := nI_ltI (a := 23) (by decide) ha
theorem sm_eq23 {a : Nat} (ha : a < 2 ^ 31) : (nI a = (23 : Int32)) ↔ a = 23 := nI_eq (b := 23) ha (by decide)
theorem sm_ad23 (a : Nat) : nI a + (23 : Int32) = nI (a + 23) := nI_add a 23
theorem sm_da23 (a : Nat) : (23 : Int32) + nI a = nI (23 + a) := nI_add 23 a
theorem sm_mu23 (a : Nat) : nI a * (23 : Int32) = nI (a * 23) := pk_mul a 23
theorem sm_um23 (a : Nat) : (23 : Int32) * nI a = nI (23 * a) := pk_mul 23 a
theorem sm_sb23 {a : Nat} (h : 23 ≤ a) : nI a - (23 : Int32) = nI (a - 23) := pk_sub (b := 23) h
theorem sm_le24 {a : Nat} (ha : a < 2 ^ 31) : (nI a ≤ (24 : Int32)) ↔ a ≤ 24 := nI_leI (b := 24) ha (by decide)
theorem sm_ge24 {a : Nat} (ha : a < 2 ^ 31) : ((24 : Int32) ≤ nI a) ↔ 24 ≤ a := nI_leI (a := 24) (by decide) ha
theorem sm_lt24 {a : Nat} (ha : a < 2 ^ 31) : (nI a < (24 : Int32)) ↔ a < 24 := nI_ltI (b := 24) ha (by decide)
theorem sm_gt24 {a : Nat} (ha : a < 2 ^ 31) : ((24 : Int32) < nI a) ↔ 24 < a := nI_ltI (a := 24) (by decide) ha
theorem sm_eq24 {a : Nat} (ha : a < 2 ^ 31) : (nI a = (24 : Int32)) ↔ a = 24 := nI_eq (b := 24) ha (by decide)
theorem sm_ad24 (a : Nat) : nI a + (24 : Int32) = nI (a + 24) := nI_add a 24
theorem sm_da24 (a : Nat) : (24 : Int32) + nI a = nI (24 + a) := nI_add 24 a
theorem sm_mu24 (a : Nat) : nI a * (24 : Int32) = nI (a * 24) := pk_mul a 24
theorem sm_um24 (a : Nat) : (24 : Int32) * nI a = nI (24 * a) := pk_mul 24 a
theorem sm_sb24 {a : Nat} (h : 24 ≤ a) : nI a - (24 : Int32) = nI (a - 24) := pk_sub (b := 24) h
theorem sm_le25 {a : Nat} (ha : a < 2 ^ 31) : (nI a ≤ (25 : Int32)) ↔ a ≤ 25 := nI_leI (b := 25) ha (by decide)
theorem sm_ge25 {a : Nat} (ha : a < 2 ^ 31) : ((25 : Int32) ≤ nI a) ↔ 25 ≤ a := nI_leI (a := 25) (by decide) ha
theorem sm_lt25 {a : Nat} (ha : a < 2 ^ 31) : (nI a < (25 : Int32)) ↔ a < 25 := nI_ltI (b := 25) ha (by decide)
theorem sm_gt25 {a : Nat} (ha : a < 2 ^ 31) : ((25 : Int32) < nI a) ↔ 25 < a := nI_ltI (a := 25) (by decide) ha
theorem sm_eq25 {a : Nat} (ha : a < 2 ^ 31) : (nI a = (25 : Int32)) ↔ a = 25 := nI_eq (b := 25) ha (by decide)
theorem sm_ad25 (a : Nat) : nI a + (25 : Int32) = nI (a + 25) := nI_add a 25
theorem sm_da25 (a : Nat) : (25 : Int32) + nI a = nI (25 + a) := nI_add 25 a
theorem sm_mu25 (a : Nat) : nI a * (25 : Int32) = nI (a * 25) := pk_mul a 25
theorem sm_um25 (a : Nat) : (25 : Int32) * nI a = nI (25 * a) := pk_mul 25 a
theorem sm_sb25 {a : Nat} (h : 25 ≤ a) : nI a - (25 : Int32) = nI (a - 25) := pk_sub (b := 25) h
theorem sm_le26 {a : Nat} (ha : a < 2 ^ 31) : (nI a ≤ (26 : Int32)) ↔ a ≤ 26 := nI_leI (b := 26) ha (by decide)
theorem sm_ge26 {a : Nat} (ha : a < 2 ^ 31) : ((26 : Int32) ≤ nI a) ↔ 26 ≤ a := nI_leI (a := 26) (by decide) ha
theorem sm_lt26 {a : Nat} (ha : a < 2 ^ 31) : (nI a < (26 : Int32)) ↔ a < 26 := nI_ltI (b := 26) ha (by decide)
theorem sm_gt26 {a : Nat} (ha : a < 2 ^ 31) : ((26 : Int32) < nI a) ↔ 26 < a := nI_ltI (a := 26) (by decide) ha
theorem sm_eq26 {a : Nat} (ha : a < 2 ^ 31) : (nI a = (26 : Int32)) ↔ a = 26 := nI_eq (b := 26) ha (by decide)
theorem sm_ad26 (a : Nat) : nI a + (26 : Int32) = nI (a + 26) := nI_add a 26
theorem sm_da26 (a : Nat) : (26 : Int32) + nI a = nI (26 + a) := nI_add 26 a
theorem sm_mu26 (a : Nat) : nI a * (26 : Int32) = nI (a * 26) := pk_mul a 26
theorem sm_um26 (a : Nat) : (26 : Int32) * nI a = nI (26 * a) := pk_mul 26 a
theorem sm_sb26 {a : Nat} (h : 26 ≤ a) : nI a - (26 : Int32) = nI (a - 26) := pk_sub (b := 26) h
theorem sm_le27 {a : Nat} (ha : a < 2 ^ 31) : (nI a ≤ (27 : Int32)) ↔ a ≤ 27 := nI_leI (b := 27) ha (by decide)
theorem sm_ge27 {a : Nat} (ha : a < 2 ^ 31) : ((27 : Int32) ≤ nI a) ↔ 27 ≤ a := nI_leI (a := 27) (by decide) ha
theorem sm_lt27 {a : Nat} (ha : a < 2 ^ 31) : (nI a < (27 : Int32)) ↔ a < 27 := nI_ltI (b := 27) ha (by decide)
theorem sm_gt27 {a : Nat} (ha : a < 2 ^ 31) : ((27 : Int32) < nI a) ↔ 27 < a := nI_ltI (a := 27) (by decide) ha
theorem sm_eq27 {a : Nat} (ha : a < 2 ^ 31) : (nI a = (27 : Int32)) ↔ a = 27 := nI_eq (b := 27) ha (by decide)
theorem sm_ad27 (a : Nat) : nI a + (27 : Int32) = nI (a + 27) := nI_add a 27
theorem sm_da27 (a : Nat) : (27 : Int32) + nI a = nI (27 + a) := nI_add 27 a
theorem sm_mu27 (a : Nat) : nI a * (27 : Int32) = nI (a * 27) := pk_mul a 27
theorem sm_um27 (a : Nat) : (27 : Int32) * nI a = nI (27 * a) := pk_mul 27 a
theorem sm_sb27 {a : Nat} (h : 27 ≤ a) : nI a - (27 : Int32) = nI (a - 27) := pk_sub (b := 27) h
theorem sm_le31 {a : Nat} (ha : a < 2 ^ 31) : (nI a ≤ (31 : Int32)) ↔ a ≤ 31 := nI_leI (b := 31) ha (by decide)
theorem sm_ge31 {a : Nat} (ha : a < 2 ^ 31) : ((31 : Int32) ≤ nI a) ↔ 31 ≤ a := nI_leI (a := 31) (by decide) ha
theorem sm_lt31 {a : Nat} (ha : a < 2 ^ 31) : (nI a < (31 : Int32)) ↔ a < 31 := nI_ltI (b := 31) ha (by decide)
theorem sm_gt31 {a : Nat} (ha : a < 2 ^ 31) : ((31 : Int32) < nI a) ↔ 31 < a := nI_ltI (a := 31) (by decide) ha
theorem sm_eq31 {a : Nat} (ha : a < 2 ^ 31) : (nI a = (31 : Int32)) ↔ a = 31 := nI_eq (b := 31) ha (by decide)
theorem sm_ad31 (a : Nat) : nI a + (31 : Int32) = nI (a + 31) := nI_add a 31
theorem sm_da31 (a : Nat) : (31 : Int32) + nI a = nI (31 + a) := nI_add 31 a
theorem sm_mu31 (a : Nat) : nI a * (31 : Int32) = nI (a * 31) := pk_mul a 31
theorem sm_um31 (a : Nat) : (31 : Int32) * nI a = nI (31 * a) := pk_mul 31 a
theorem sm_sb31 {a : Nat} (h : 31 ≤ a) : nI a - (31 : Int32) = nI (a - 31) := pk_sub (b := 31) h
theorem sm_le32 {a : Nat} (ha : a < 2 ^ 31) : (nI a ≤ (32 : Int32)) ↔ a ≤ 32 := nI_leI (b := 32) ha (by decide)
theorem sm_ge32 {a : Nat} (ha : a < 2 ^ 31) : ((32 : Int32) ≤ nI a) ↔ 32 ≤ a := nI_leI (a := 32) (by decide) ha
theorem sm_lt32 {a : Nat} (ha : a < 2 ^ 31) : (nI a < (32 : Int32)) ↔ a < 32 := nI_ltI (b := 32) ha (by decide)
theorem sm_gt32 {a : Nat} (ha : a < 2 ^ 31) : ((32 : Int32) < nI a) ↔ 32 < a := nI_ltI (a := 32) (by decide) ha
theorem sm_eq32 {a : Nat} (ha : a < 2 ^ 31) : (nI a = (32 : Int32)) ↔ a = 32 := nI_eq (b := 32) ha (by decide)
theorem sm_ad32 (a : Nat) : nI a + (32 : Int32) = nI (a + 32) := nI_add a 32
theorem sm_da32 (a : Nat) : (32 : Int32) + nI a = nI (32 + a) := nI_add 32 a
theorem sm_mu32 (a : Nat) : nI a * (32 : Int32) = nI (a * 32) := pk_mul a 32
theorem sm_um32 (a : Nat) : (32 : Int32) * nI a = nI (32 * a) := pk_mul 32 a
theorem sm_sb32 {a : Nat} (h : 32 ≤ a) : nI a - (32 : Int32) = nI (a - 32) := pk_sub (b := 32) h
theorem sm_le33 {a : Nat} (ha : a < 2 ^ 31) : (nI a ≤ (33 : Int32)) ↔ a ≤ 33 := nI_leI (b := 33) ha (by decide)
theorem sm_ge33 {a : Nat} (ha : a < 2 ^ 31) : ((33 : Int32) ≤ nI a) ↔ 33 ≤ a := nI_leI (a := 33) (by decide) ha
theorem sm_lt33 {a : Nat} (ha : a < 2 ^ 31) : (nI a < (33 : Int32)) ↔ a < 33 := nI_ltI (b := 33) ha (by decide)
theorem sm_gt33 {a : Nat} (ha : a < 2 ^ 31) : ((33 : Int32) < nI a) ↔ 33 < a := nI_ltI (a := 33) (by decide) ha
theorem sm_eq33 {a : Nat} (ha : a < 2 ^ 31) : (nI a = (33 : Int32)) ↔ a = 33 := nI_eq (b := 33) ha (by decide)
theorem sm_ad33 (a : Nat) : nI a + (33 : Int32) = nI (a + 33) := nI_add a 33
theorem sm_da33 (a : Nat) : (33 : Int32) + nI a = nI (33 + a) := nI_add 33 a
theorem sm_mu33 (a : Nat) : nI a * (33 : Int32) = nI (a * 33) := pk_mul a 33
theorem sm_um33 (a : Nat) : (33 : Int32) * nI a = nI (33 * a) := pk_mul 33 a
theorem sm_sb33 {a : Nat} (h : 33 ≤ a) : nI a - (33 : Int32) = nI (a - 33) := pk_sub (b := 33) h
theorem sm_le100 {a : Nat} (ha : a < 2 ^ 31) : (nI a ≤ (100 : Int32)) ↔ a ≤ 100 := nI_leI (b := 100) ha (by decide)
theorem sm_ge100 {a : Nat} (ha : a < 2 ^ 31) : ((100 : Int32) ≤ nI a) ↔ 100 ≤ a := nI_leI (a := 100) (by decide) ha
theorem sm_lt100 {a : Nat} (ha : a < 2 ^ 31) : (nI a < (100 : Int32)) ↔ a < 100 := nI_ltI (b := 100) ha (by decide)
theorem sm_gt100 {a : Nat} (ha : a < 2 ^ 31) : ((100 : Int32) < nI a) ↔ 100 < a := nI_ltI (a := 100) (by decide) ha
theorem sm_eq100 {a : Nat} (ha : a < 2 ^ 31) : (nI a = (100 : Int32)) ↔ a = 100 := nI_eq (b := 100) ha (by decide)
theorem sm_ad100 (a : Nat) : nI a + (100 : Int32) = nI (a + 100) := nI_add a 100
theorem sm_da100 (a : Nat) : (100 : Int32) + nI a = nI (100 + a) := nI_add 100 a
theorem sm_mu100 (a : Nat) : nI a * (100 : Int32) = nI (a * 100) := pk_mul a 100
theorem sm_um100 (a : Nat) : (100 : Int32) * nI a = nI (100 * a) := pk_mul 100 a
theorem sm_sb100 {a : Nat} (h : 100 ≤ a) : nI a - (100 : Int32) = nI (a - 100) := pk_sub (b := 100) h
theorem sm_le120 {a : Nat} (ha : a < 2 ^ 31) : (nI a ≤ (120 : Int32)) ↔ a ≤ 120 := nI_leI (b := 120) ha (by decide)
theorem sm_ge120 {a : Nat} (ha : a < 2 ^ 31) : ((120 : Int32) ≤ nI a) ↔ 120 ≤ a := nI_leI (a := 120) (by decide) ha
theorem sm_lt120 {a : Nat} (ha : a < 2 ^ 31) : (nI a < (120 : Int32)) ↔ a < 120 := nI_ltI (b := 120) ha (by decide)
theorem sm_gt120 {a : Nat} (ha : a < 2 ^ 31) : ((120 : Int32) < nI a) ↔ 120 < a := nI_ltI (a := 120) (by decide) ha
theorem sm_eq120 {a : Nat} (ha : a < 2 ^ 31) : (nI a = (120 : Int32)) ↔ a = 120 := nI_eq (b := 120) ha (by decide)
theorem sm_ad120 (a : Nat) : nI a + (120 : Int32) = nI (a + 120) := nI_add a 120
theorem sm_da120 (a : Nat) : (120 : Int32) + nI a = nI (120 + a) := nI_add 120 a
theorem sm_mu120 (a : Nat) : nI a * (120 : Int32) = nI (a * 120) := pk_mul a 120
theorem sm_um120 (a : Nat) : (120 : Int32) * nI a = nI (120 * a) := pk_mul 120 a
theorem sm_sb120 {a : Nat} (h : 120 ≤ a) : nI a - (120 : Int32) = nI (a - 120) := pk_sub (b := 120) h
theorem sm_le121 {a : Nat} (ha : a < 2 ^ 31) : (nI a ≤ (121 : Int32)) ↔ a ≤ 121 := nI_leI (b := 121) ha (by decide)
theorem sm_ge121 {a : Nat} (ha : a < 2 ^ 31) : ((121 : Int32) ≤ nI a) ↔ 121 ≤ a := nI_leI (a := 121) (by decide) ha
theorem sm_lt121 {a : Nat} (ha : a < 2 ^ 31) : (nI a < (121 : Int32)) ↔ a < 121 := nI_ltI (b := 121) ha (by decide)
theorem sm_gt121 {a : Nat} (ha : a < 2 ^ 31) : ((121 : Int32) < nI a) ↔ 121 < a := nI_ltI (a := 121) (by decide) ha
theorem sm_eq121 {a : Nat} (ha : a < 2 ^ 31) : (nI a = (121 : Int32)) ↔ a = 121 := nI_eq (b := 121) ha (by decide)
theorem sm_ad121 (a : Nat) : nI a + (121 : Int32) = nI (a + 121) := nI_add a 121
theorem sm_da121 (a : Nat) : (121 : Int32) + nI a = nI (121 + a) := nI_add 121 a
theorem sm_mu121 (a : Nat) : nI a * (121 : Int32) = nI (a * 121) := pk_mul a 121
theorem sm_um121 (a : Nat) : (121 : Int32) * nI a = nI (121 * a) := pk_mul 121 a
theorem sm_sb121 {a : Nat} (h : 121 ≤ a) : nI a - (121 : Int32) = nI (a - 121) := pk_sub (b := 121) h
theorem sm_le128 {a : Nat} (ha : a < 2 ^ 31) : (nI a ≤ (128 : Int32)) ↔ a ≤ 128 := nI_leI (b := 128) ha (by decide)
theorem sm_ge128 {a : Nat} (ha : a < 2 ^ 31) : ((128 : Int32) ≤ nI a) ↔ 128 ≤ a := nI_leI (a := 128) (by decide) ha
theorem sm_lt128 {a : Nat} (ha : a < 2 ^ 31) : (nI a < (128 : Int32)) ↔ a < 128 := nI_ltI (b := 128) ha (by decide)
theorem sm_gt128 {a : Nat} (ha : a < 2 ^ 31) : ((128 : Int32) < nI a) ↔ 128 < a := nI_ltI (a := 128) (by decide) ha
theorem sm_eq128 {a : Nat} (ha : a < 2 ^ 31) : (nI a = (128 : Int32)) ↔ a = 128 := nI_eq (b := 128) ha (by decide)
theorem sm_ad128 (a : Nat) : nI a + (128 : Int32) = nI (a + 128) := nI_add a 128
theorem sm_da128 (a : Nat) : (128 : Int32) + nI a = nI (128 + a) := nI_add 128 a
theorem sm_mu128 (a : Nat) : nI a * (128 : Int32) = nI (a * 128) := pk_mul a 128
theorem sm_um128 (a : Nat) : (128 : Int32) * nI a = nI (128 * a) := pk_mul 128 a
theorem sm_sb128 {a : Nat} (h : 128 ≤ a) : nI a - (128 : Int32) = nI (a - 128) := pk_sub (b := 128) h
theorem sm_le160 {a : Nat} (ha : a < 2 ^ 31) : (nI a ≤ (160 : Int32)) ↔ a ≤ 160 := nI_leI (b := 160) ha (by decide)
theorem sm_ge160 {a : Nat} (ha : a < 2 ^ 31) : ((160 : Int32) ≤ nI a) ↔ 160 ≤ a := nI_leI (a := 160) (by decide) ha
theorem sm_lt160 {a : Nat} (ha : a < 2 ^ 31) : (nI a < (160 : Int32)) ↔ a < 160 := nI_ltI (b := 160) ha (by decide)
theorem sm_gt160 {a : Nat} (ha : a < 2 ^ 31) : ((160 : Int32) < nI a) ↔ 160 < a := nI_ltI (a := 160) (by decide) ha
theorem sm_eq160 {a : Nat} (ha : a < 2 ^ 31) : (nI a = (160 : Int32)) ↔ a = 160 := nI_eq (b := 160) ha (by decide)
theorem sm_ad160 (a : Nat) : nI a + (160 : Int32) = nI (a + 160) := nI_add a 160
theorem sm_da160 (a : Nat) : (160 : Int32) + nI a = nI (160 + a) := nI_add 160 a
theorem sm_mu160 (a : Nat) : nI a * (160 : Int32) = nI (a * 160) := pk_mul a 160
theorem sm_um160 (a : Nat) : (160 : Int32) * nI a = nI (160 * a) := pk_mul 160 a
theorem sm_sb160 {a : Nat} (h : 160 ≤ a) : nI a - (160 : Int32) = nI (a - 160) := pk_sub (b := 160) h
theorem sm_le255 {a : Nat} (ha : a < 2 ^ 31) : (nI a ≤ (255 : Int32)) ↔ a ≤ 255 := nI_leI (b := 255) ha (by decide)
theorem sm_ge255 {a : Nat} (ha : a < 2 ^ 31) : ((255 : Int32) ≤ nI a) ↔ 255 ≤ a := nI_leI (a := 255) (by decide) ha
theorem sm_lt255 {a : Nat} (ha : a < 2 ^ 31) : (nI a < (255 : Int32)) ↔ a < 255 := nI_ltI (b := 255) ha (by decide)
theorem sm_gt255 {a : Nat} (ha : a < 2 ^ 31) : ((255 : Int32) < nI a) ↔ 255 < a := nI_ltI (a := 255) (by decide) ha
theorem sm_eq255 {a : Nat} (ha : a < 2 ^ 31) : (nI a = (255 : Int32)) ↔ a = 255 := nI_eq (b := 255) ha (by decide)
theorem sm_ad255 (a : Nat) : nI a + (255 : Int32) = nI (a + 255) := nI_add a 255
theorem sm_da255 (a : Nat) : (255 : Int32) + nI a = nI (255 + a) := nI_add 255 a
theorem sm_mu255 (a : Nat) : nI a * (255 : Int32) = nI (a * 255) := pk_mul a 255
theorem sm_um255 (a : Nat) : (255 : Int32) * nI a = nI (255 * a) := pk_mul 255 a
theorem sm_sb255 {a : Nat} (h : 255 ≤ a) : nI a - (255 : Int32) = nI (a - 255) := pk_sub (b := 255) h
theorem sm_le1280 {a : Nat} (ha : a < 2 ^ 31) : (nI a ≤ (1280 : Int32)) ↔ a ≤ 1280 := nI_leI (b := 1280) ha (by decide)
theorem sm_ge1280 {a : Nat} (ha : a < 2 ^ 31) : ((1280 : Int32) ≤ nI a) ↔ 1280 ≤ a := nI_leI (a := 1280) (by decide) ha
theorem sm_lt1280 {a : Nat} (ha : a < 2 ^ 31) : (nI a < (1280 : Int32)) ↔ a < 1280 := nI_ltI (b := 1280) ha (by decide)
theorem sm_gt1280 {a : Nat} (ha : a < 2 ^ 31) : ((1280 : Int32) < nI a) ↔ 1280 < a := nI_ltI (a := 1280) (by decide) ha
theorem sm_eq1280 {a : Nat} (ha : a < 2 ^ 31) : (nI a = (1280 : Int32)) ↔ a = 1280 := nI_eq (b := 1280) ha (by decide)
theorem sm_ad1280 (a : Nat) : nI a + (1280 : Int32) = nI (a + 1280) := nI_add a 1280
theorem sm_da1280 (a : Nat) : (1280 : Int32) + nI a = nI (1280 + a) := nI_add 1280 a
theorem sm_mu1280 (a : Nat) : nI a * (1280 : Int32) = nI (a * 1280) := pk_mul a 1280
theorem sm_um1280 (a : Nat) : (1280 : Int32) * nI a = nI (1280 * a) := pk_mul 1280 a
theorem sm_sb1280 {a : Nat} (h : 1280 ≤ a) : nI a - (1280 : Int32) = nI (a - 1280) := pk_sub (b := 1280) h
theorem sm_le7000 {a : Nat} (ha : a < 2 ^ 31) : (nI a ≤ (7000 : Int32)) ↔ a ≤ 7000 := nI_leI (b := 7000) ha (by decide)
theorem sm_ge7000 {a : Nat} (ha : a < 2 ^ 31) : ((7000 : Int32) ≤ nI a) ↔ 7000 ≤ a := nI_leI (a := 7000) (by decide) ha
theorem sm_lt7000 {a : Nat} (ha : a < 2 ^ 31) : (nI a < (7000 : Int32)) ↔ a < 7000 := nI_ltI (b := 7000) ha (by decide)
theorem sm_gt7000 {a : Nat} (ha : a < 2 ^ 31) : ((7000 : Int32) < nI a) ↔ 7000 < a := nI_ltI (a := 7000) (by decide) ha
theorem sm_eq7000 {a : Nat} (ha : a < 2 ^ 31) : (nI a = (7000 : Int32)) ↔ a = 7000 := nI_eq (b := 7000) ha (by decide)
theorem sm_ad7000 (a : Nat) : nI a + (7000 : Int32) = nI (a + 7000) := nI_add a 7000
theorem sm_da7000 (a : Nat) : (7000 : Int32) + nI a = nI (7000 + a) := nI_add 7000 a
theorem sm_mu7000 (a : Nat) : nI a * (7000 : Int32) = nI (a * 7000) := pk_mul a 7000
theorem sm_um7000 (a : Nat) : (7000 : Int32) * nI a = nI (7000 * a) := pk_mul 7000 a
theorem sm_sb7000 {a : Nat} (h : 7000 ≤ a) : nI a - (7000 : Int32) = nI (a - 7000) := pk_sub (b := 7000) h
theorem sm_le9999 {a : Nat} (ha : a < 2 ^ 31) : (nI a ≤ (9999 : Int32)) ↔ a ≤ 9999 := nI_leI (b := 9999) ha (by decide)
theorem sm_ge9999 {a : Nat} (ha : a < 2 ^ 31) : ((9999 : Int32) ≤ nI a) ↔ 9999 ≤ a := nI_leI (a := 9999) (by decide) ha
theorem sm_lt9999 {a : Nat} (ha : a < 2 ^ 31) : (nI a < (9999 : Int32)) ↔ a < 9999 := nI_ltI (b := 9999) ha (by decide)
theorem sm_gt9999 {a : Nat} (ha : a < 2 ^ 31) : ((9999 : Int32) < nI a) ↔ 9999 < a := nI_ltI (a := 9999) (by decide) ha
theorem sm_eq9999 {a : Nat} (ha : a < 2 ^ 31) : (nI a = (9999 : Int32)) ↔ a = 9999 := nI_eq (b := 9999) ha (by decide)
theorem sm_ad9999 (a : Nat) : nI a + (9999 : Int32) = nI (a + 9999) := nI_add a 9999
theorem sm_da9999 (a : Nat) : (9999 : Int32) + nI a = nI (9999 + a) := nI_add 9999 a
theorem sm_mu9999 (a : Nat) : nI a * (9999 : Int32) = nI (a * 9999) := pk_mul a 9999
theorem sm_um9999 (a : Nat) : (9999 : Int32) * nI a = nI (9999 * a) := pk_mul 9999 a
theorem sm_sb9999 {a : Nat} (h : 9999 ≤ a) : nI a - (9999 : Int32) = nI (a - 9999) := pk_sub (b := 9999) h
end
end
section
/-! arrays of naturals, stores, bits -/
section
def sm_n (g : Nat → Nat) : Nat → Int32 := fun i => nI (g i)
def sm_k (g : Nat → Bool) : Nat → Int32 := fun i => nI (g i).toNat
def sm_u {α : Type} (g : Nat → α) (k : Nat) (v : α) : Nat → α := fun j => if j = k then v else g j
def sm_ar (tk : Nat → Nat) : Nat → Nat := fun i => tk i / 100
theorem sm_nap (g : Nat → Nat) (k : Nat) : sm_n g k = nI (g k) := rfl
theorem sm_kap (g : Nat → Bool) (k : Nat) : sm_k g k = nI (g k).toNat := rfl
theorem sm_arap (tk : Nat → Nat) (k : Nat) : sm_ar tk k = tk k / 100 := rfl
theorem sm_us {α : Type} {g : Nat → α} {k : Nat} {v : α} : sm_u g k v k = v := if_pos rfl
theorem sm_un {α : Type} {g : Nat → α} {k j : Nat} {v : α} (h : j ≠ k) : sm_u g k v j = g j := if_neg h
theorem sm_nu (g : Nat → Nat) (k v : Nat) : upd (sm_n g) k (nI v) = sm_n (sm_u g k v) := by
  funext j
  show (if j = k then nI v else nI (g j)) = nI (if j = k then v else g j)
  split <;> rfl
theorem sm_ku (g : Nat → Bool) (k : Nat) (v : Bool) : upd (sm_k g) k (nI v.toNat) = sm_k (sm_u g k v) := by
  funext j
  show (if j = k then nI v.toNat else nI (g j).toNat) = nI (if j = k then v else g j).toNat
  split <;> rfl
theorem sm_aru (tk : Nat → Nat) (k t : Nat) : sm_u (sm_ar tk) k (t / 100) = sm_ar (sm_u tk k t) := by
  funext j
  show (if j = k then t / 100 else tk j / 100) = (if j = k then t else tk j) / 100
  split <;> rfl
theorem sm_uu (a : Nat → Int32) (k : Nat) (x y : Int32) : upd (upd a k x) k y = upd a k y := by
  funext j
  show (if j = k then y else if j = k then x else a j) = if j = k then y else a j
  split <;> rfl
theorem sm_uuN (a : Nat → Nat) (k : Nat) (x y : Nat) : sm_u (sm_u a k x) k y = sm_u a k y := by
  funext j
  show (if j = k then y else if j = k then x else a j) = if j = k then y else a j
  split <;> rfl
theorem sm_uv {α : Type} {g : Nat → α} {k j : Nat} {v : α} : sm_u g k v j = if j = k then v else g j := rfl
theorem sm_pv {g : Nat → Int32} {k j : Nat} {v : Int32} : upd g k v j = if j = k then v else g j := rfl
theorem sm_n0 : sm_n (fun _ => 0) = fun _ => (0 : Int32) := rfl
theorem sm_100 : ¬ (100 : Int32) = 0 := by decide
theorem sm_10 : ¬ (1 : Int32) = 0 := by decide
theorem sm_b0 : vp_nar .boolean 0 = 0 := by decide
theorem sm_b1 : vp_nar .boolean 1 = 1 := by decide
theorem sm_ng {n : Nat} : ¬ (-1 : Int32) = nI n ∨ True := Or.inr trivial
/-- division and remainder by 100 -/
theorem sm_dv {t : Nat} (h : t < 2 ^ 31) : nI t / 100 = nI (t / 100) := pk_div (d := 100) h (by decide) (by decide)
theorem sm_rm {t : Nat} (h : t < 2 ^ 31) : nI t - nI t / 100 * 100 = nI (t % 100) := pk_rem (d := 100) h (by decide) (by decide)
/-- shift counts -/
theorem sm_sl : ∀ n, n < 32 → ((nI n &&& 31).toBitVec.smod 32).toNat = n := by decide +kernel
theorem sm_and (a b : Nat) : nI a &&& nI b = nI (a &&& b) := by
  apply Int32.toBitVec_inj.1
  show BitVec.ofNat 32 a &&& BitVec.ofNat 32 b = BitVec.ofNat 32 (a &&& b)
  apply BitVec.eq_of_getLsbD_eq
  intro i hi
  simp [hi]
theorem sm_or (a b : Nat) : nI a ||| nI b = nI (a ||| b) := by
  apply Int32.toBitVec_inj.1
  show BitVec.ofNat 32 a ||| BitVec.ofNat 32 b = BitVec.ofNat 32 (a ||| b)
  apply BitVec.eq_of_getLsbD_eq
  intro i hi
  simp [hi]
theorem sm_bit {m j : Nat} (hm : m < 2 ^ 31) (hj : j < 32) : (nI m >>> (nI j &&& 31)) &&& 1 = nI (m.testBit j).toNat := by
  rw [pk_shrN hm (nI j &&& 31) j (sm_sl j hj), pk_andN (k := 1) (Nat.lt_of_le_of_lt (Nat.div_le_self _ _) (by omega)) (by decide), Nat.toNat_testBit]
theorem sm_shr {m j : Nat} (hm : m < 2 ^ 31) (hj : j < 32) : nI m >>> (nI j &&& 31) = nI (m / 2 ^ j) := pk_shrN hm (nI j &&& 31) j (sm_sl j hj)
theorem sm_shl {m j : Nat} (hj : j < 32) (h : m * 2 ^ j < 2 ^ 32) : nI m <<< (nI j &&& 31) = nI (m * 2 ^ j) := pk_shlN (nI j &&& 31) j (sm_sl j hj) h
theorem sm_one {j : Nat} (hj : j < 31) : (1 : Int32) <<< (nI j &&& 31) = nI (2 ^ j) := by
  have h := Nat.pow_le_pow_right (n := 2) (by decide) (show j ≤ 30 by omega)
  have := sm_shl (m := 1) (j := j) (by omega) (by omega)
  rw [Nat.one_mul] at this
  exact this
theorem sm_msk {j : Nat} (hj : j < 31) : (1 : Int32) <<< (nI j &&& 31) - 1 = nI (2 ^ j - 1) := by
  rw [sm_one hj]
  exact pk_sub (b := 1) (Nat.two_pow_pos j)
theorem sm_bz {b : Bool} : nI b.toNat = 0 ↔ b = false := by cases b <;> decide
theorem sm_bo {b : Bool} : nI b.toNat = 1 ↔ b = true := by cases b <;> decide
theorem sm_bzn {b : Bool} : ¬ nI b.toNat = 0 ↔ b = true := by cases b <;> decide
theorem sm_bb {b c : Bool} : nI b.toNat = nI c.toNat ↔ b = c := by cases b <;> cases c <;> decide
theorem sm_bl (b : Bool) : ¬ nI b.toNat < 0 := by cases b <;> decide
/-- clearing a bit -/
theorem sm_clr : ∀ s, s < 256 → ∀ v, v < 8 → nI s &&& (nI (2 ^ v) ^^^ (-1)) = nI (s &&& (255 ^^^ 2 ^ v)) := by decide +kernel
theorem sm_clrB {s v j : Nat} (hs : s < 256) (hv : v < 8) : (s &&& (255 ^^^ 2 ^ v)).testBit j = (s.testBit j && !decide (j = v)) := by
  rw [Nat.testBit_and, Nat.testBit_xor, show 255 = 2 ^ 8 - 1 from rfl, Nat.testBit_two_pow_sub_one, Nat.testBit_two_pow]
  by_cases hj : j < 8
  · by_cases e : j = v
    · subst e; simp [hj]
    · have e' : ¬ v = j := fun z => e z.symm
      simp [hj, e, e']
  · have : s.testBit j = false := Nat.testBit_lt_two_pow (Nat.lt_of_lt_of_le hs (Nat.pow_le_pow_right (n := 2) (i := 8) (by decide) (by omega)))
    simp [this]
theorem sm_8s (k : Nat) (h : k < 65536) : nI k <<< ((8 : Int32) &&& 31) = nI (k * 256) := sm_shl (j := 8) (by omega) (by omega)
theorem sm_tz {x i n : Nat} (h : x < 2 ^ n) (hi : n ≤ i) : x.testBit i = false := Nat.testBit_lt_two_pow (Nat.lt_of_lt_of_le h (Nat.pow_le_pow_right (by decide) hi))
theorem sm_m8 (x i : Nat) : (x * 256).testBit i = (decide (8 ≤ i) && x.testBit (i - 8)) := Nat.testBit_mul_two_pow x i 8
theorem sm_p8 {a : Nat} (h : a ≤ 8) : 2 ^ a ≤ 256 := Nat.pow_le_pow_right (n := 2) (j := 8) (by decide) h
/-- counting -/
def sm_cnt (P : Nat → Bool) : Nat → Nat
  | 0 => 0
  | n + 1 => sm_cnt P n + (P n).toNat
theorem sm_cnt_le (P : Nat → Bool) : ∀ n, sm_cnt P n ≤ n := by
  intro n
  induction n with
  | zero => exact Nat.le_refl 0
  | succ n ih =>
    have : (P n).toNat ≤ 1 := Bool.toNat_le (P n)
    show sm_cnt P n + (P n).toNat ≤ n + 1
    omega
theorem sm_cnt_congr {P Q : Nat → Bool} : ∀ n, (∀ i, i < n → P i = Q i) → sm_cnt P n = sm_cnt Q n := by
  intro n
  induction n with
  | zero => intro _; rfl
  | succ n ih =>
    intro h
    show sm_cnt P n + (P n).toNat = sm_cnt Q n + (Q n).toNat
    rw [ih (fun i hi => h i (by omega)), h n (by omega)]
theorem sm_cnt_mono {P Q : Nat → Bool} : ∀ n, (∀ i, i < n → P i = true → Q i = true) → sm_cnt P n ≤ sm_cnt Q n := by
  intro n
  induction n with
  | zero => intro _; exact Nat.le_refl 0
  | succ n ih =>
    intro h
    have h1 := ih (fun i hi => h i (by omega))
    have h2 : (P n).toNat ≤ (Q n).toNat := by
      have := h n (by omega)
      cases hp : P n
      · exact Nat.zero_le _
      · rw [this hp]; exact Nat.le_refl _
    show sm_cnt P n + (P n).toNat ≤ sm_cnt Q n + (Q n).toNat
    omega
theorem sm_cnt_lt {P Q : Nat → Bool} : ∀ n, (∀ i, i < n → P i = true → Q i = true) → ∀ k, k < n → P k = false → Q k = true → sm_cnt P n < sm_cnt Q n := by
  intro n
  induction n with
  | zero => intro _ k hk; omega
  | succ n ih =>
    intro h k hk hp hq
    show sm_cnt P n + (P n).toNat < sm_cnt Q n + (Q n).toNat
    by_cases e : k = n
    · subst e
      have h1 := sm_cnt_mono k (fun i hi => h i (by omega))
      rw [hp, hq]
      show sm_cnt P k + 0 < sm_cnt Q k + 1
      omega
    · have h1 := ih (fun i hi => h i (by omega)) k (by omega) hp hq
      have h2 : (P n).toNat ≤ (Q n).toNat := by
        have := h n (by omega)
        cases hp : P n
        · exact Nat.zero_le _
        · rw [this hp]; exact Nat.le_refl _
      omega
theorem sm_cnt_full {P : Nat → Bool} : ∀ n, sm_cnt P n = n → ∀ k, k < n → P k = true := by
  intro n h k hk
  cases hp : P k
  · have := sm_cnt_lt (P := P) (Q := fun _ => true) n (fun _ _ _ => rfl) k hk hp rfl
    have h2 := sm_cnt_le (fun _ => true) n
    omega
  · rfl
theorem sm_cnt_none {P : Nat → Bool} : ∀ n, (∀ k, k < n → P k = false) → sm_cnt P n = 0 := by
  intro n
  induction n with
  | zero => intro _; rfl
  | succ n ih =>
    intro h
    show sm_cnt P n + (P n).toNat = 0
    rw [ih (fun k hk => h k (by omega)), h n (by omega)]
    rfl
/-- setting one place -/
theorem sm_cnt_set {P : Nat → Bool} {k : Nat} : ∀ n, k < n → P k = false → sm_cnt (sm_u P k true) n = sm_cnt P n + 1 := by
  intro n
  induction n with
  | zero => intro hk; omega
  | succ n ih =>
    intro hk hp
    show sm_cnt (sm_u P k true) n + (sm_u P k true n).toNat = sm_cnt P n + (P n).toNat + 1
    by_cases e : k = n
    · subst e
      rw [sm_us, hp, sm_cnt_congr (P := sm_u P k true) (Q := P) k (fun i hi => sm_un (by omega))]
      rfl
    · rw [ih (by omega) hp, sm_un (by omega)]
      omega
theorem sm_cnt_clr {P : Nat → Bool} {k : Nat} : ∀ n, k < n → P k = true → sm_cnt P n = sm_cnt (sm_u P k false) n + 1 := by
  intro n hk hp
  have h := sm_cnt_set (P := sm_u P k false) (k := k) n hk sm_us
  have e : sm_u (sm_u P k false) k true = P := by
    funext j
    show (if j = k then true else if j = k then false else P j) = P j
    split
    · rename_i z; rw [z, hp]
    · rfl
  rw [e] at h
  exact h
/-- a one-to-one list of exactly the places that hold -/
theorem sm_cnt_bij {N : Nat} : ∀ (u : Nat) (P : Nat → Bool) (bi : Nat → Nat), (∀ c, c < u → bi c < N ∧ P (bi c) = true) → (∀ c d, c < u → d < u → bi c = bi d → c = d) → (∀ b, b < N → P b = true → ∃ c, c < u ∧ bi c = b) → sm_cnt P N = u := by
  intro u
  induction u with
  | zero =>
    intro P bi _ _ h3
    refine sm_cnt_none N (fun k hk => ?_)
    cases hp : P k
    · rfl
    · obtain ⟨c, hc, _⟩ := h3 k hk hp
      omega
  | succ u ih =>
    intro P bi h1 h2 h3
    have hu := h1 u (by omega)
    rw [sm_cnt_clr N hu.1 hu.2]
    rw [ih (sm_u P (bi u) false) bi (fun c hc => ⟨(h1 c (by omega)).1, ?_⟩) (fun c d hc hd e => h2 c d (by omega) (by omega) e) (fun b hb hp => ?_)]
    · rw [sm_un (fun z => absurd (h2 c u (by omega) (by omega) z) (by omega))]
      exact (h1 c (by omega)).2
    · by_cases e : b = bi u
      · subst e; rw [sm_us] at hp; cases hp
      · rw [sm_un e] at hp
        obtain ⟨c, hc, hb2⟩ := h3 b hb hp
        refine ⟨c, ?_, hb2⟩
        have : c ≠ u := fun z => e (by rw [← hb2, z])
        omega
/-- least sets -/
def sm_ls (R : Nat → Prop) (E : Nat → Nat → Prop) (x : Nat) : Prop := ∀ S : Nat → Prop, (∀ y, R y → S y) → (∀ y z, S y → E y z → S z) → S x
theorem sm_ls_r {R : Nat → Prop} {E : Nat → Nat → Prop} {x : Nat} (h : R x) : sm_ls R E x := fun _ hR _ => hR x h
theorem sm_ls_e {R : Nat → Prop} {E : Nat → Nat → Prop} {x y : Nat} (h : sm_ls R E x) (e : E x y) : sm_ls R E y := fun S hR hE => hE x y (h S hR hE) e
theorem sm_ls_i {R : Nat → Prop} {E : Nat → Nat → Prop} {x : Nat} (h : sm_ls R E x) (S : Nat → Prop) (hR : ∀ y, R y → S y) (hE : ∀ y z, S y → E y z → S z) : S x := h S hR hE
end
end
section
/-! the program: tokens, heights, kinds, blocks -/
section
def sm_pop (pm : Nat → Nat) (t : Nat) : Nat :=
  if t % 100 ≤ 3 then 0 else if t % 100 = 21 then 0 else if t % 100 = 22 then 0 else if t % 100 = 24 then 0 else if t % 100 = 9 then 3 else
  if t % 100 = 13 then pm (t / 100) else if t % 100 ≤ 8 then 2 else if t % 100 < 15 then 1 else if 17 < t % 100 then 1 else 2
def sm_ps (t : Nat) : Nat := if t % 100 ≤ 13 then 1 else 0
def sm_pk (mk : Nat → Nat) (gl : Nat → Bool) (p t : Nat) : Bool :=
  if t % 100 = 3 then (mk p).testBit (t / 100) else if t % 100 = 13 then gl (t / 100) else decide (t % 100 = 2 ∨ t % 100 = 9 ∨ t % 100 = 11 ∨ t % 100 = 12)
def sm_wk (pm mk : Nat → Nat) (gl : Nat → Bool) (p t : Nat) : Nat :=
  if t % 100 = 9 then 6 else if t % 100 = 10 ∨ t % 100 = 11 ∨ t % 100 = 12 ∨ t % 100 = 15 then 1 else if t % 100 = 16 ∨ t % 100 = 17 then 3 else
  if t % 100 = 13 then mk (t / 100) % 2 ^ pm (t / 100) else if t % 100 = 14 then ((mk p).testBit (t / 100)).toNat else if t % 100 = 25 then (gl p).toNat else 0
/-- the popped kinds are right -/
def sm_ty (pm mk : Nat → Nat) (gl : Nat → Bool) (p t h k : Nat) : Prop :=
  (t % 100 = 8 → k / 2 ^ (h - sm_pop pm t) = 0 ∨ k / 2 ^ (h - sm_pop pm t) = 3) ∧ (t % 100 ≠ 8 → t % 100 ≠ 19 → k / 2 ^ (h - sm_pop pm t) = sm_wk pm mk gl p t)
/-- height and kinds behind a token -/
def sm_h2 (pm : Nat → Nat) (t h : Nat) : Nat := h - sm_pop pm t + sm_ps t
def sm_k2 (pm mk : Nat → Nat) (gl : Nat → Bool) (p t h k : Nat) : Nat :=
  k % 2 ^ (h - sm_pop pm t) ||| (if t % 100 ≤ 13 then (sm_pk mk gl p t).toNat * 2 ^ (h - sm_pop pm t) else 0)
def sm_tA (np : Nat) (vs tk ow : Nat → Nat) (i : Nat) : Prop :=
  1 ≤ tk i % 100 ∧ tk i % 100 ≤ 25 ∧ tk i < 1000000 ∧ (tk i % 100 ≠ 1 → tk i % 100 ≠ 3 → tk i % 100 ≠ 13 → tk i % 100 ≠ 14 → tk i < 100) ∧
  (tk i % 100 = 3 ∨ tk i % 100 = 14 → tk i / 100 < vs (ow i)) ∧ (tk i % 100 = 13 → tk i / 100 < np) ∧ ow i < np
def sm_tB (pm mk : Nat → Nat) (gl : Nat → Bool) (tk ow hh kk : Nat → Nat) (i : Nat) : Prop :=
  sm_pop pm (tk i) ≤ hh i ∧ (20 ≤ tk i % 100 → hh i = sm_pop pm (tk i)) ∧ sm_ty pm mk gl (ow i) (tk i) (hh i) (kk i) ∧
  hh (i + 1) = sm_h2 pm (tk i) (hh i) ∧ hh (i + 1) ≤ 8 ∧ kk (i + 1) = sm_k2 pm mk gl (ow i) (tk i) (hh i) (kk i)
def sm_tC (tk dp : Nat → Nat) (pt hd : Nat → Nat → Nat) (i : Nat) : Prop :=
  (tk i % 100 = 20 ∨ tk i % 100 = 22 → dp i < 6 ∧ dp (i + 1) = dp i + 1 ∧ pt (i + 1) = sm_u (pt i) (dp i) i ∧ hd (i + 1) = sm_u (hd i) (dp i) i) ∧
  (tk i % 100 = 21 → 1 ≤ dp i ∧ tk (pt i (dp i - 1)) = 20 ∧ dp (i + 1) = dp i ∧ pt (i + 1) = sm_u (pt i) (dp i - 1) i ∧ hd (i + 1) = hd i) ∧
  (tk i % 100 = 23 → 1 ≤ dp i ∧ tk (pt i (dp i - 1)) = 22 ∧ dp (i + 1) = dp i ∧ pt (i + 1) = sm_u (pt i) (dp i - 1) i ∧ hd (i + 1) = hd i) ∧
  (tk i % 100 = 24 → (1 ≤ dp i → tk (pt i (dp i - 1)) ≠ 22) ∧ dp (i + 1) = dp i - 1 ∧ pt (i + 1) = pt i ∧ hd (i + 1) = hd i) ∧
  (tk i % 100 < 20 ∨ 24 < tk i % 100 → dp (i + 1) = dp i ∧ pt (i + 1) = pt i ∧ hd (i + 1) = hd i)
def sm_tD (tk xo xj dp : Nat → Nat) (pt hd : Nat → Nat → Nat) (i : Nat) : Prop :=
  (tk i % 100 ≠ 24 → xo i = tk i % 100) ∧ (tk i % 100 = 24 → dp i = 0 → xo i = 27) ∧
  (tk i % 100 = 24 → 1 ≤ dp i → tk (pt i (dp i - 1)) = 23 → xo i = 26 ∧ xj i = hd i (dp i - 1)) ∧
  (tk i % 100 = 24 → 1 ≤ dp i → tk (pt i (dp i - 1)) ≠ 23 → xo i = 24)
/-- from i on, up to j, level l stands with i as its last part -/
def sm_sc (dp : Nat → Nat) (pt : Nat → Nat → Nat) (i l j : Nat) : Prop :=
  i < j ∧ dp (i + 1) = l + 1 ∧ ∀ k, i < k → k ≤ j → l + 1 ≤ dp k ∧ pt k l = i
def sm_cl (tk xj dp : Nat → Nat) (pt : Nat → Nat → Nat) (nt i : Nat) : Prop :=
  ∃ j, j < nt ∧ 1 ≤ dp j ∧ sm_sc dp pt i (dp j - 1) j ∧ (tk j % 100 = 24 ∨ tk j % 100 = 21) ∧ xj i = j + 1
def sm_tJ (tk xj dp : Nat → Nat) (pt : Nat → Nat → Nat) (nt i : Nat) : Prop :=
  tk i % 100 = 20 ∨ tk i % 100 = 21 ∨ tk i % 100 = 23 → (∃ l, l < dp nt ∧ pt nt l = i) ∨ sm_cl tk xj dp pt nt i
/-- the owners: pe i: token i ends its procedure -/
def sm_pe (tk dp : Nat → Nat) (i : Nat) : Prop := tk i % 100 = 24 ∧ dp i = 0
def sm_tO (np nt : Nat) (fi tk ow dp : Nat → Nat) (i : Nat) : Prop :=
  fi (ow i) ≤ i ∧ (∀ q, ow i < q → q < np → i < fi q) ∧ (¬ sm_pe tk dp i → i + 1 < nt → ow (i + 1) = ow i) ∧ (∀ k, fi (ow i) ≤ k → k < i → ¬ sm_pe tk dp k)
def sm_pO (np nt : Nat) (pm vs mk fi ow hh kk dp : Nat → Nat) (opn : Int32) (q : Nat) : Prop :=
  pm q ≤ 3 ∧ pm q ≤ vs q ∧ vs q ≤ 8 ∧ mk q < 2 ^ vs q ∧ fi q ≤ nt ∧ dp (fi q) = 0 ∧ hh (fi q) = 0 ∧ kk (fi q) = 0 ∧ (fi q < nt → ow (fi q) = q) ∧ (fi q < nt ∨ (opn = 1 ∧ q + 1 = np))
/-- the program's form -/
def sm_PG (opn : Int32) (np nt : Nat) (pm vs mk : Nat → Nat) (gl : Nat → Bool) (fi tk xo xj ow hh kk dp : Nat → Nat) (pt hd : Nat → Nat → Nat) : Prop :=
  (np ≤ 8 ∧ nt ≤ 160 ∧ hh 0 = 0 ∧ kk 0 = 0 ∧ dp 0 = 0) ∧ (opn = 0 ∨ (opn = 1 ∧ 1 ≤ np)) ∧
  (∀ i, i < nt → sm_tA np vs tk ow i) ∧ (∀ i, i < nt → sm_tB pm mk gl tk ow hh kk i) ∧ (∀ i, i < nt → sm_tC tk dp pt hd i) ∧
  (∀ i, i < nt → sm_tD tk xo xj dp pt hd i) ∧ (∀ i, i < nt → sm_tJ tk xj dp pt nt i) ∧ (∀ i, i < nt → sm_tO np nt fi tk ow dp i) ∧
  (∀ q, q < np → sm_pO np nt pm vs mk fi ow hh kk dp opn q) ∧
  (opn = 0 → dp nt = 0 ∧ hh nt = 0 ∧ kk nt = 0) ∧ (opn = 0 ∨ fi (np - 1) = nt → 0 < nt → sm_pe tk dp (nt - 1)) ∧ (opn = 1 → ∀ k, fi (np - 1) ≤ k → k < nt → ¬ sm_pe tk dp k)
variable {np nt : Nat} {pm vs mk fi tk xo xj ow hh kk dp : Nat → Nat} {gl : Nat → Bool} {pt hd : Nat → Nat → Nat} {opn : Int32}
/-- heights and kinds are bounded -/
theorem sm_kb {t h k p r : Nat} (hr : h - sm_pop pm t = r) : sm_k2 pm mk gl p t h k < 2 ^ (r + sm_ps t) := by
  unfold sm_k2 sm_ps
  rw [hr]
  by_cases c : t % 100 ≤ 13
  · rw [if_pos c, if_pos c]
    refine Nat.or_lt_two_pow (Nat.lt_of_lt_of_le (Nat.mod_lt _ (Nat.two_pow_pos r)) (Nat.pow_le_pow_right (by decide) (by omega))) ?_
    have : (sm_pk mk gl p t).toNat ≤ 1 := Bool.toNat_le _
    have h2 : 0 < 2 ^ r := Nat.two_pow_pos r
    rw [Nat.pow_succ]
    have := Nat.mul_le_mul_right (2 ^ r) this
    omega
  · rw [if_neg c, if_neg c, Nat.or_zero]
    exact Nat.mod_lt _ (Nat.two_pow_pos r)
theorem sm_hk (h0 : hh 0 = 0) (k0 : kk 0 = 0) (hB : ∀ i, i < nt → sm_tB pm mk gl tk ow hh kk i) : ∀ i, i ≤ nt → hh i ≤ 8 ∧ kk i < 2 ^ hh i := by
  intro i
  induction i with
  | zero => intro _; rw [h0, k0]; exact ⟨by omega, by decide⟩
  | succ i ih =>
    intro hi
    obtain ⟨_, _, _, b4, b5, b6⟩ := hB i (by omega)
    refine ⟨b5, ?_⟩
    rw [b6, b4]
    exact sm_kb rfl
/-- the standing levels -/
theorem sm_pnd (d0 : dp 0 = 0) (hA : ∀ i, i < nt → sm_tA np vs tk ow i) (hC : ∀ i, i < nt → sm_tC tk dp pt hd i) : ∀ i, i ≤ nt → dp i ≤ 6 ∧ ∀ l, l < dp i → sm_sc dp pt (pt i l) l i ∧ 20 ≤ tk (pt i l) ∧ tk (pt i l) ≤ 23 := by
  intro i
  induction i with
  | zero => intro _; rw [d0]; exact ⟨by omega, fun l hl => by omega⟩
  | succ i ih =>
    intro hi
    obtain ⟨ih1, ih2⟩ := ih (by omega)
    obtain ⟨c1, c2, c3, c4, c5⟩ := hC i (by omega)
    obtain ⟨a1, a2, a3, a4, _⟩ := hA i (by omega)
    have keep : ∀ l, l < dp i → l < dp (i + 1) → pt (i + 1) l = pt i l → sm_sc dp pt (pt (i + 1) l) l (i + 1) ∧ 20 ≤ tk (pt (i + 1) l) ∧ tk (pt (i + 1) l) ≤ 23 := by
      intro l hl hl2 e
      obtain ⟨⟨s1, s2, s3⟩, s4⟩ := ih2 l hl
      rw [e]
      refine ⟨⟨by omega, s2, fun k hk1 hk2 => ?_⟩, s4⟩
      by_cases ek : k ≤ i
      · exact s3 k hk1 ek
      · have : k = i + 1 := by omega
        subst this
        exact ⟨by omega, e⟩
    have new : ∀ l, dp (i + 1) = l + 1 → pt (i + 1) l = i → 20 ≤ tk i → tk i ≤ 23 → sm_sc dp pt (pt (i + 1) l) l (i + 1) ∧ 20 ≤ tk (pt (i + 1) l) ∧ tk (pt (i + 1) l) ≤ 23 := by
      intro l h1 h2 h3 h4
      rw [h2]
      refine ⟨⟨by omega, h1, fun k hk1 hk2 => ?_⟩, h3, h4⟩
      have : k = i + 1 := by omega
      subst this
      exact ⟨by omega, h2⟩
    by_cases e1 : tk i % 100 = 20 ∨ tk i % 100 = 22
    · obtain ⟨d1, d2, d3, _⟩ := c1 e1
      have ht := a4 (by omega) (by omega) (by omega) (by omega)
      refine ⟨by omega, fun l hl => ?_⟩
      by_cases el : l = dp i
      · exact new l (by omega) (by rw [d3, el, sm_us]) (by omega) (by omega)
      · exact keep l (by omega) hl (by rw [d3, sm_un el])
    · by_cases e2 : tk i % 100 = 21
      · obtain ⟨d1, _, d2, d3, _⟩ := c2 e2
        have ht := a4 (by omega) (by omega) (by omega) (by omega)
        refine ⟨by omega, fun l hl => ?_⟩
        by_cases el : l = dp i - 1
        · exact new l (by omega) (by rw [d3, el, sm_us]) (by omega) (by omega)
        · exact keep l (by omega) hl (by rw [d3, sm_un el])
      · by_cases e3 : tk i % 100 = 23
        · obtain ⟨d1, _, d2, d3, _⟩ := c3 e3
          have ht := a4 (by omega) (by omega) (by omega) (by omega)
          refine ⟨by omega, fun l hl => ?_⟩
          by_cases el : l = dp i - 1
          · exact new l (by omega) (by rw [d3, el, sm_us]) (by omega) (by omega)
          · exact keep l (by omega) hl (by rw [d3, sm_un el])
        · by_cases e4 : tk i % 100 = 24
          · obtain ⟨_, d2, d3, _⟩ := c4 e4
            exact ⟨by omega, fun l hl => keep l (by omega) hl (by rw [d3])⟩
          · obtain ⟨d2, d3, _⟩ := c5 (by omega)
            exact ⟨by omega, fun l hl => keep l (by omega) hl (by rw [d3])⟩
/-- the heads of the standing levels -/
def sm_hs (tk dp : Nat → Nat) (pt hd : Nat → Nat → Nat) (i l : Nat) : Prop :=
  hd i l < i ∧ dp (hd i l) = l ∧ (∀ k, hd i l < k → k ≤ i → l + 1 ≤ dp k) ∧ (tk (pt i l) = 20 ∨ tk (pt i l) = 21 → tk (hd i l) = 20) ∧ (tk (pt i l) = 22 ∨ tk (pt i l) = 23 → tk (hd i l) = 22)
theorem sm_hds (d0 : dp 0 = 0) (hA : ∀ i, i < nt → sm_tA np vs tk ow i) (hC : ∀ i, i < nt → sm_tC tk dp pt hd i) : ∀ i, i ≤ nt → ∀ l, l < dp i → sm_hs tk dp pt hd i l := by
  intro i
  induction i with
  | zero => intro _ l hl; rw [d0] at hl; omega
  | succ i ih =>
    intro hi
    have ih2 := ih (by omega)
    obtain ⟨c1, c2, c3, c4, c5⟩ := hC i (by omega)
    obtain ⟨a1, a2, a3, a4, _⟩ := hA i (by omega)
    have keep : ∀ l, l < dp i → l < dp (i + 1) → hd (i + 1) l = hd i l → (tk (pt (i + 1) l) = 20 ∨ tk (pt (i + 1) l) = 21 → tk (pt i l) = 20 ∨ tk (pt i l) = 21) → (tk (pt (i + 1) l) = 22 ∨ tk (pt (i + 1) l) = 23 → tk (pt i l) = 22 ∨ tk (pt i l) = 23) → sm_hs tk dp pt hd (i + 1) l := by
      intro l hl hl2 e p1 p2
      obtain ⟨s1, s2, s3, s4, s5⟩ := ih2 l hl
      unfold sm_hs
      rw [e]
      refine ⟨by omega, s2, fun k hk1 hk2 => ?_, fun z => s4 (p1 z), fun z => s5 (p2 z)⟩
      by_cases ek : k ≤ i
      · exact s3 k hk1 ek
      · have : k = i + 1 := by omega
        subst this
        omega
    by_cases e1 : tk i % 100 = 20 ∨ tk i % 100 = 22
    · obtain ⟨d1, d2, d3, d4⟩ := c1 e1
      have ht := a4 (by omega) (by omega) (by omega) (by omega)
      intro l hl
      by_cases el : l = dp i
      · subst el
        unfold sm_hs
        rw [d3, d4, sm_us, sm_us]
        refine ⟨by omega, rfl, fun k hk1 hk2 => ?_, fun z => by omega, fun z => by omega⟩
        have : k = i + 1 := by omega
        subst this
        omega
      · have e : pt (i + 1) l = pt i l := by rw [d3, sm_un el]
        exact keep l (by omega) hl (by rw [d4, sm_un el]) (by rw [e]; exact id) (by rw [e]; exact id)
    · by_cases e2 : tk i % 100 = 21
      · obtain ⟨d1, dk, d2, d3, d4⟩ := c2 e2
        have ht := a4 (by omega) (by omega) (by omega) (by omega)
        intro l hl
        by_cases el : l = dp i - 1
        · subst el
          refine keep _ (by omega) hl (by rw [d4]) (fun _ => Or.inl dk) (fun z => ?_)
          rw [d3, sm_us] at z
          omega
        · have e : pt (i + 1) l = pt i l := by rw [d3, sm_un el]
          exact keep l (by omega) hl (by rw [d4]) (by rw [e]; exact id) (by rw [e]; exact id)
      · by_cases e3 : tk i % 100 = 23
        · obtain ⟨d1, dk, d2, d3, d4⟩ := c3 e3
          have ht := a4 (by omega) (by omega) (by omega) (by omega)
          intro l hl
          by_cases el : l = dp i - 1
          · subst el
            refine keep _ (by omega) hl (by rw [d4]) (fun z => ?_) (fun _ => Or.inl dk)
            rw [d3, sm_us] at z
            omega
          · have e : pt (i + 1) l = pt i l := by rw [d3, sm_un el]
            exact keep l (by omega) hl (by rw [d4]) (by rw [e]; exact id) (by rw [e]; exact id)
        · by_cases e4 : tk i % 100 = 24
          · obtain ⟨_, d2, d3, d4⟩ := c4 e4
            exact fun l hl => keep l (by omega) hl (by rw [d4]) (by rw [d3]; exact id) (by rw [d3]; exact id)
          · obtain ⟨d2, d3, d4⟩ := c5 (by omega)
            exact fun l hl => keep l (by omega) hl (by rw [d4]) (by rw [d3]; exact id) (by rw [d3]; exact id)
end
end
section
/-! a closed program: successors, liveness -/
section
variable {np nt : Nat} {pm vs mk fi tk xo xj ow hh kk dp : Nat → Nat} {gl : Nat → Bool} {pt hd : Nat → Nat → Nat} {opn : Int32}
def sm_s1 (xo xj : Nat → Nat) (i : Nat) : Option Nat := if xo i = 25 ∨ xo i = 27 then none else if xo i = 21 ∨ xo i = 26 then some (xj i) else some (i + 1)
def sm_s2 (xo xj : Nat → Nat) (i : Nat) : Option Nat := if xo i = 20 ∨ xo i = 23 then some (xj i) else none
theorem sm_PA (h : sm_PG opn np nt pm vs mk gl fi tk xo xj ow hh kk dp pt hd) {i : Nat} (hi : i < nt) : sm_tA np vs tk ow i := h.2.2.1 i hi
theorem sm_PB (h : sm_PG opn np nt pm vs mk gl fi tk xo xj ow hh kk dp pt hd) {i : Nat} (hi : i < nt) : sm_tB pm mk gl tk ow hh kk i := h.2.2.2.1 i hi
theorem sm_PC (h : sm_PG opn np nt pm vs mk gl fi tk xo xj ow hh kk dp pt hd) {i : Nat} (hi : i < nt) : sm_tC tk dp pt hd i := h.2.2.2.2.1 i hi
theorem sm_PD (h : sm_PG opn np nt pm vs mk gl fi tk xo xj ow hh kk dp pt hd) {i : Nat} (hi : i < nt) : sm_tD tk xo xj dp pt hd i := h.2.2.2.2.2.1 i hi
theorem sm_PJ (h : sm_PG opn np nt pm vs mk gl fi tk xo xj ow hh kk dp pt hd) {i : Nat} (hi : i < nt) : sm_tJ tk xj dp pt nt i := h.2.2.2.2.2.2.1 i hi
theorem sm_PO (h : sm_PG opn np nt pm vs mk gl fi tk xo xj ow hh kk dp pt hd) {i : Nat} (hi : i < nt) : sm_tO np nt fi tk ow dp i := h.2.2.2.2.2.2.2.1 i hi
theorem sm_PQ (h : sm_PG opn np nt pm vs mk gl fi tk xo xj ow hh kk dp pt hd) {q : Nat} (hq : q < np) : sm_pO np nt pm vs mk fi ow hh kk dp opn q := h.2.2.2.2.2.2.2.2.1 q hq
theorem sm_PH (h : sm_PG opn np nt pm vs mk gl fi tk xo xj ow hh kk dp pt hd) {i : Nat} (hi : i ≤ nt) : hh i ≤ 8 ∧ kk i < 2 ^ hh i := sm_hk h.1.2.2.1 h.1.2.2.2.1 h.2.2.2.1 i hi
theorem sm_PP (h : sm_PG opn np nt pm vs mk gl fi tk xo xj ow hh kk dp pt hd) {i : Nat} (hi : i ≤ nt) : dp i ≤ 6 ∧ ∀ l, l < dp i → sm_sc dp pt (pt i l) l i ∧ 20 ≤ tk (pt i l) ∧ tk (pt i l) ≤ 23 := sm_pnd h.1.2.2.2.2 h.2.2.1 h.2.2.2.2.1 i hi
theorem sm_PS (h : sm_PG opn np nt pm vs mk gl fi tk xo xj ow hh kk dp pt hd) {i l : Nat} (hi : i ≤ nt) (hl : l < dp i) : sm_hs tk dp pt hd i l := sm_hds h.1.2.2.2.2 h.2.2.1 h.2.2.2.2.1 i hi l hl
/-- a token is its own number from 20 on -/
theorem sm_t20 (h : sm_PG opn np nt pm vs mk gl fi tk xo xj ow hh kk dp pt hd) {i : Nat} (hi : i < nt) (h2 : 15 ≤ tk i % 100) : tk i = tk i % 100 := by
  have := (sm_PA h hi).2.2.2.1 (by omega) (by omega) (by omega) (by omega)
  omega
theorem sm_xo27 (h : sm_PG opn np nt pm vs mk gl fi tk xo xj ow hh kk dp pt hd) {i : Nat} (hi : i < nt) : xo i = 27 ↔ sm_pe tk dp i := by
  obtain ⟨d1, d2, d3, d4⟩ := sm_PD h hi
  obtain ⟨a1, a2, _⟩ := sm_PA h hi
  unfold sm_pe
  by_cases e : tk i % 100 = 24
  · by_cases z : dp i = 0
    · exact ⟨fun _ => ⟨e, z⟩, fun _ => d2 e z⟩
    · by_cases k : tk (pt i (dp i - 1)) = 23
      · have := (d3 e (by omega) k).1
        exact ⟨fun y => by omega, fun y => absurd y.2 z⟩
      · have := d4 e (by omega) k
        exact ⟨fun y => by omega, fun y => absurd y.2 z⟩
  · have := d1 e
    exact ⟨fun y => by omega, fun y => absurd y.1 e⟩
/-- the same op, but for the ENDs -/
theorem sm_xoe (h : sm_PG opn np nt pm vs mk gl fi tk xo xj ow hh kk dp pt hd) {i : Nat} (hi : i < nt) : (tk i % 100 ≠ 24 → xo i = tk i % 100) ∧ (tk i % 100 = 24 → xo i = 24 ∨ xo i = 26 ∨ xo i = 27) := by
  obtain ⟨d1, d2, d3, d4⟩ := sm_PD h hi
  refine ⟨d1, fun e => ?_⟩
  by_cases z : dp i = 0
  · exact Or.inr (Or.inr (d2 e z))
  · by_cases k : tk (pt i (dp i - 1)) = 23
    · exact Or.inr (Or.inl (d3 e (by omega) k).1)
    · exact Or.inl (d4 e (by omega) k)
theorem sm_xol (h : sm_PG opn np nt pm vs mk gl fi tk xo xj ow hh kk dp pt hd) {i : Nat} (hi : i < nt) : 1 ≤ xo i ∧ xo i ≤ 27 := by
  obtain ⟨a1, a2, _⟩ := sm_PA h hi
  obtain ⟨e1, e2⟩ := sm_xoe h hi
  by_cases e : tk i % 100 = 24
  · rcases e2 e with z | z | z <;> omega
  · rw [e1 e]; omega
/-- the owner stays where no procedure ends -/
theorem sm_owc (h : sm_PG opn np nt pm vs mk gl fi tk xo xj ow hh kk dp pt hd) {a : Nat} : ∀ b, a ≤ b → b < nt → (∀ k, a ≤ k → k < b → ¬ sm_pe tk dp k) → ow b = ow a := by
  intro b
  induction b with
  | zero => intro h1 _ _; rw [Nat.le_zero.mp h1]
  | succ b ih =>
    intro h1 h2 h3
    by_cases e : a = b + 1
    · rw [e]
    · rw [← ih (by omega) (by omega) (fun k k1 k2 => h3 k k1 (by omega))]
      exact (sm_PO h (by omega)).2.2.1 (h3 b (by omega) (by omega)) h2
theorem sm_nx (h : sm_PG 0 np nt pm vs mk gl fi tk xo xj ow hh kk dp pt hd) {i : Nat} (hi : i < nt) (hp : ¬ sm_pe tk dp i) : i + 1 < nt := by
  have hl := h.2.2.2.2.2.2.2.2.2.2.1 (Or.inl rfl) (by omega)
  by_cases e : i + 1 < nt
  · exact e
  · have : i = nt - 1 := by omega
    rw [this] at hp
    exact absurd hl hp
theorem sm_nx1 (h : sm_PG 0 np nt pm vs mk gl fi tk xo xj ow hh kk dp pt hd) {i : Nat} (hi : i < nt) (hp : ¬ sm_pe tk dp i) : i + 1 < nt ∧ ow (i + 1) = ow i := ⟨sm_nx h hi hp, (sm_PO h hi).2.2.1 hp (sm_nx h hi hp)⟩
/-- behind a token of 20 .. 25 nothing is left -/
theorem sm_h0 (h : sm_PG opn np nt pm vs mk gl fi tk xo xj ow hh kk dp pt hd) {i : Nat} (hi : i < nt) (h2 : 20 ≤ tk i % 100) : hh (i + 1) = 0 ∧ kk (i + 1) = 0 := by
  obtain ⟨b1, b2, _, b4, _, _⟩ := sm_PB h hi
  have e : hh (i + 1) = 0 := by
    rw [b4, b2 h2]
    unfold sm_h2 sm_ps
    rw [if_neg (by omega)]
    omega
  have := (sm_PH h (show i + 1 ≤ nt by omega)).2
  rw [e] at this
  exact ⟨e, by omega⟩
theorem sm_cls (h : sm_PG 0 np nt pm vs mk gl fi tk xo xj ow hh kk dp pt hd) {i : Nat} (hi : i < nt) (h2 : tk i % 100 = 20 ∨ tk i % 100 = 21 ∨ tk i % 100 = 23) : sm_cl tk xj dp pt nt i := by
  rcases sm_PJ h hi h2 with ⟨l, hl, _⟩ | z
  · have := (h.2.2.2.2.2.2.2.2.2.1 rfl).1
    omega
  · exact z
/-- where a jump leads -/
theorem sm_jmp (h : sm_PG 0 np nt pm vs mk gl fi tk xo xj ow hh kk dp pt hd) {i : Nat} (hi : i < nt) (h2 : tk i % 100 = 20 ∨ tk i % 100 = 21 ∨ tk i % 100 = 23) : xj i < nt ∧ ow (xj i) = ow i ∧ hh (xj i) = 0 ∧ kk (xj i) = 0 := by
  obtain ⟨j, j1, j2, ⟨s1, s2, s3⟩, j4, j5⟩ := sm_cls h hi h2
  have hp : ∀ k, i ≤ k → k < j + 1 → ¬ sm_pe tk dp k := by
    intro k k1 k2 hk
    by_cases e : k = i
    · subst e
      have := hk.1
      omega
    · have := (s3 k (by omega) (by omega)).1
      have := hk.2
      omega
  have hn := sm_nx h j1 (hp j (by omega) (by omega))
  rw [j5]
  obtain ⟨z1, z2⟩ := sm_h0 h j1 (by omega)
  exact ⟨hn, sm_owc h (j + 1) (by omega) hn hp, z1, z2⟩
theorem sm_loop (h : sm_PG opn np nt pm vs mk gl fi tk xo xj ow hh kk dp pt hd) {i : Nat} (hi : i < nt) (h2 : xo i = 26) : tk i = 24 ∧ 1 ≤ dp i ∧ xj i = hd i (dp i - 1) ∧ xj i < i ∧ ow (xj i) = ow i ∧ tk (xj i) = 22 ∧ hh (xj i) = 0 ∧ kk (xj i) = 0 := by
  obtain ⟨d1, d2, d3, d4⟩ := sm_PD h hi
  have e : tk i % 100 = 24 := by
    by_cases e : tk i % 100 = 24
    · exact e
    · have := d1 e
      have := (sm_PA h hi).2.1
      omega
  have z : 1 ≤ dp i := by
    by_cases z : dp i = 0
    · have := d2 e z
      omega
    · omega
  have k : tk (pt i (dp i - 1)) = 23 := by
    by_cases k : tk (pt i (dp i - 1)) = 23
    · exact k
    · have := d4 e z k
      omega
  have ej := (d3 e z k).2
  obtain ⟨g1, g2, g3, _, g5⟩ := sm_PS h (show i ≤ nt by omega) (show dp i - 1 < dp i by omega)
  have t22 := g5 (Or.inr k)
  have hlt : hd i (dp i - 1) < nt := by omega
  have hb := (sm_PB h hlt).2.1 (by omega)
  have hz : hh (hd i (dp i - 1)) = 0 := by
    rw [hb, t22]
    rfl
  have hk := (sm_PH h (show hd i (dp i - 1) ≤ nt by omega)).2
  rw [hz] at hk
  refine ⟨by have := sm_t20 h hi (by omega); omega, z, ej, by omega, ?_, by rw [ej]; exact t22, by rw [ej]; exact hz, by rw [ej]; omega⟩
  rw [ej]
  refine (sm_owc h i (by omega) hi (fun q q1 q2 hq => ?_)).symm
  by_cases eq : q = hd i (dp i - 1)
  · rw [eq] at hq
    have := hq.1
    omega
  · have := g3 q (by omega) (by omega)
    have := hq.2
    omega
/-- the successors -/
theorem sm_s1f (h : sm_PG 0 np nt pm vs mk gl fi tk xo xj ow hh kk dp pt hd) {i s : Nat} (hi : i < nt) (e : sm_s1 xo xj i = some s) : s < nt ∧ ow s = ow i ∧ hh s = hh (i + 1) ∧ kk s = kk (i + 1) := by
  unfold sm_s1 at e
  by_cases c1 : xo i = 25 ∨ xo i = 27
  · rw [if_pos c1] at e; cases e
  · rw [if_neg c1] at e
    have np : ¬ sm_pe tk dp i := fun z => c1 (Or.inr ((sm_xo27 h hi).mpr z))
    by_cases c2 : xo i = 21 ∨ xo i = 26
    · rw [if_pos c2] at e
      cases e
      rcases c2 with c2 | c2
      · have t : tk i % 100 = 21 := by
          obtain ⟨e1, e2⟩ := sm_xoe h hi
          by_cases q : tk i % 100 = 24
          · rcases e2 q with z | z | z <;> omega
          · rw [← e1 q]; exact c2
        obtain ⟨j1, j2, j3, j4⟩ := sm_jmp h hi (Or.inr (Or.inl t))
        obtain ⟨z1, z2⟩ := sm_h0 h hi (by omega)
        exact ⟨j1, j2, by rw [j3, z1], by rw [j4, z2]⟩
      · obtain ⟨l1, _, _, l4, l5, _, l7, l8⟩ := sm_loop h hi c2
        obtain ⟨z1, z2⟩ := sm_h0 h hi (by rw [l1]; decide)
        exact ⟨by omega, l5, by rw [l7, z1], by rw [l8, z2]⟩
    · rw [if_neg c2] at e
      cases e
      obtain ⟨n1, n2⟩ := sm_nx1 h hi np
      exact ⟨n1, n2, rfl, rfl⟩
theorem sm_s2f (h : sm_PG 0 np nt pm vs mk gl fi tk xo xj ow hh kk dp pt hd) {i s : Nat} (hi : i < nt) (e : sm_s2 xo xj i = some s) : s < nt ∧ ow s = ow i ∧ hh s = hh (i + 1) ∧ kk s = kk (i + 1) := by
  unfold sm_s2 at e
  by_cases c1 : xo i = 20 ∨ xo i = 23
  · rw [if_pos c1] at e
    cases e
    have t : tk i % 100 = 20 ∨ tk i % 100 = 23 := by
      obtain ⟨e1, e2⟩ := sm_xoe h hi
      by_cases q : tk i % 100 = 24
      · rcases e2 q with z | z | z <;> omega
      · rw [← e1 q]; exact c1
    obtain ⟨j1, j2, j3, j4⟩ := sm_jmp h hi (by omega)
    obtain ⟨z1, z2⟩ := sm_h0 h hi (by omega)
    exact ⟨j1, j2, by rw [j3, z1], by rw [j4, z2]⟩
  · rw [if_neg c1] at e; cases e
/-- liveness -/
def sm_lvE (nt : Nat) (tk xo xj : Nat → Nat) (v s j : Nat) : Prop := j < nt ∧ tk j ≠ 14 + 100 * v ∧ (sm_s1 xo xj j = some s ∨ sm_s2 xo xj j = some s)
def sm_lv (nt : Nat) (tk xo xj : Nat → Nat) (v i : Nat) : Prop := sm_ls (fun j => j < nt ∧ tk j = 3 + 100 * v) (sm_lvE nt tk xo xj v) i
/-- the answer of a compile -/
def sm_LV (nt : Nat) (tk xo xj xl : Nat → Nat) : Prop := ∀ i, i < nt → xl i < 256 ∧ ∀ v, v < 8 → ((xl i).testBit v = true ↔ sm_lv nt tk xo xj v i)
def sm_la (nt : Nat) (xl : Nat → Nat) (k : Nat) : Nat := if k < nt then xl k else 0
def sm_lb0 (nt : Nat) (xo xj xl : Nat → Nat) (i : Nat) : Nat :=
  (if xo i = 25 ∨ xo i = 27 ∨ xo i = 21 ∨ xo i = 26 then 0 else sm_la nt xl (i + 1)) ||| (if xo i = 20 ∨ xo i = 23 ∨ xo i = 21 ∨ xo i = 26 then sm_la nt xl (xj i) else 0)
def sm_lb (nt : Nat) (tk xo xj xl : Nat → Nat) (i : Nat) : Nat :=
  if xo i = 14 then sm_lb0 nt xo xj xl i &&& (255 ^^^ 2 ^ (tk i / 100)) else if xo i = 3 then sm_lb0 nt xo xj xl i ||| 2 ^ (tk i / 100) else sm_lb0 nt xo xj xl i
theorem sm_lab {xl : Nat → Nat} (hx : ∀ i, i < nt → xl i < 256) (k : Nat) : sm_la nt xl k < 2 ^ 8 := by
  unfold sm_la
  split
  · exact hx k (by assumption)
  · decide
theorem sm_lb0b {xl : Nat → Nat} (hx : ∀ i, i < nt → xl i < 256) (i : Nat) : sm_lb0 nt xo xj xl i < 2 ^ 8 := by
  unfold sm_lb0
  refine Nat.or_lt_two_pow ?_ ?_ <;> split <;> first | exact sm_lab hx _ | decide
/-- the bits in front of a token, from those behind it -/
theorem sm_lb0t (h : sm_PG 0 np nt pm vs mk gl fi tk xo xj ow hh kk dp pt hd) {xl : Nat → Nat} {i v : Nat} (hi : i < nt) : (sm_lb0 nt xo xj xl i).testBit v = true ↔ ∃ s, (sm_s1 xo xj i = some s ∨ sm_s2 xo xj i = some s) ∧ (xl s).testBit v = true := by
  have k1 : (sm_s1 xo xj i = none ∧ (xo i = 25 ∨ xo i = 27) ∧ ¬ (xo i = 20 ∨ xo i = 23 ∨ xo i = 21 ∨ xo i = 26)) ∨ (sm_s1 xo xj i = some (xj i) ∧ (xo i = 21 ∨ xo i = 26)) ∨ (sm_s1 xo xj i = some (i + 1) ∧ ¬ (xo i = 25 ∨ xo i = 27 ∨ xo i = 21 ∨ xo i = 26)) := by
    unfold sm_s1
    by_cases c1 : xo i = 25 ∨ xo i = 27
    · exact Or.inl ⟨if_pos c1, c1, by omega⟩
    · by_cases c2 : xo i = 21 ∨ xo i = 26
      · exact Or.inr (Or.inl ⟨by rw [if_neg c1, if_pos c2], c2⟩)
      · exact Or.inr (Or.inr ⟨by rw [if_neg c1, if_neg c2], by omega⟩)
  have la : ∀ s, s < nt → sm_la nt xl s = xl s := fun s hs => if_pos hs
  rw [sm_lb0, Nat.testBit_or, Bool.or_eq_true]
  rcases k1 with ⟨e, c1, c2⟩ | ⟨e, c1⟩ | ⟨e, c1⟩
  · rw [if_pos (by omega), if_neg c2, Nat.zero_testBit, e]
    have e2 : sm_s2 xo xj i = none := if_neg (by omega)
    rw [e2]
    constructor
    · intro z; rcases z with z | z <;> cases z
    · rintro ⟨s, z | z, _⟩ <;> cases z
  · have hs := (sm_s1f h hi e).1
    rw [if_pos (by omega), if_pos (by omega), Nat.zero_testBit, e, la _ hs]
    have e2 : sm_s2 xo xj i = none := if_neg (by omega)
    rw [e2]
    constructor
    · intro z
      rcases z with z | z
      · cases z
      · exact ⟨_, Or.inl rfl, z⟩
    · rintro ⟨s, z | z, y⟩
      · cases z; exact Or.inr y
      · cases z
  · have hs := (sm_s1f h hi e).1
    rw [if_neg c1, e, la _ hs]
    by_cases c2 : xo i = 20 ∨ xo i = 23
    · have e2 : sm_s2 xo xj i = some (xj i) := if_pos c2
      rw [if_pos (by omega), e2, la _ (sm_s2f h hi e2).1]
      constructor
      · intro z
        rcases z with z | z
        · exact ⟨_, Or.inl rfl, z⟩
        · exact ⟨_, Or.inr rfl, z⟩
      · rintro ⟨s, z | z, y⟩
        · cases z; exact Or.inl y
        · cases z; exact Or.inr y
    · have e2 : sm_s2 xo xj i = none := if_neg c2
      rw [if_neg (by omega), e2, Nat.zero_testBit]
      constructor
      · intro z
        rcases z with z | z
        · exact ⟨_, Or.inl rfl, z⟩
        · cases z
      · rintro ⟨s, z | z, y⟩
        · cases z; exact Or.inl y
        · cases z
theorem sm_arv (h : sm_PG opn np nt pm vs mk gl fi tk xo xj ow hh kk dp pt hd) {i : Nat} (hi : i < nt) (e : tk i % 100 = 3 ∨ tk i % 100 = 14) : tk i / 100 < 8 := by
  obtain ⟨_, _, _, _, a5, _, a7⟩ := sm_PA h hi
  have := (sm_PQ h a7).2.2.1
  have := a5 e
  omega
theorem sm_lbt (h : sm_PG 0 np nt pm vs mk gl fi tk xo xj ow hh kk dp pt hd) {xl : Nat → Nat} (hx : ∀ i, i < nt → xl i < 256) {i v : Nat} (hi : i < nt) (hv : v < 8) : (sm_lb nt tk xo xj xl i).testBit v = true ↔ (tk i = 3 + 100 * v ∨ (tk i ≠ 14 + 100 * v ∧ ∃ s, (sm_s1 xo xj i = some s ∨ sm_s2 xo xj i = some s) ∧ (xl s).testBit v = true)) := by
  obtain ⟨e1, e2⟩ := sm_xoe h hi
  have ht : xo i = 14 ↔ tk i % 100 = 14 := by
    by_cases q : tk i % 100 = 24
    · rcases e2 q with z | z | z <;> omega
    · rw [e1 q]
  have ht3 : xo i = 3 ↔ tk i % 100 = 3 := by
    by_cases q : tk i % 100 = 24
    · rcases e2 q with z | z | z <;> omega
    · rw [e1 q]
  rw [← sm_lb0t h hi]
  unfold sm_lb
  by_cases c : xo i = 14
  · have c' := ht.mp c
    have ha := sm_arv h hi (Or.inr c')
    rw [if_pos c, sm_clrB (sm_lb0b hx i) ha, Bool.and_eq_true, Bool.not_eq_true', decide_eq_false_iff_not]
    constructor
    · rintro ⟨z1, z2⟩
      exact Or.inr ⟨by omega, z1⟩
    · rintro (z | ⟨z1, z2⟩)
      · omega
      · exact ⟨z2, by omega⟩
  · rw [if_neg c]
    have c' : tk i % 100 ≠ 14 := fun z => c (ht.mpr z)
    by_cases d : xo i = 3
    · have d' := ht3.mp d
      have ha := sm_arv h hi (Or.inl d')
      rw [if_pos d, Nat.testBit_or, Nat.testBit_two_pow, Bool.or_eq_true, decide_eq_true_eq]
      constructor
      · rintro (z | z)
        · exact Or.inr ⟨by omega, z⟩
        · exact Or.inl (by omega)
      · rintro (z | ⟨z1, z2⟩)
        · exact Or.inr (by omega)
        · exact Or.inl z2
    · rw [if_neg d]
      have d' : tk i % 100 ≠ 3 := fun z => d (ht3.mpr z)
      constructor
      · exact fun z => Or.inr ⟨by omega, z⟩
      · rintro (z | ⟨z1, z2⟩)
        · omega
        · exact z2
theorem sm_lbb (h : sm_PG 0 np nt pm vs mk gl fi tk xo xj ow hh kk dp pt hd) {xl : Nat → Nat} (hx : ∀ i, i < nt → xl i < 256) {i : Nat} (hi : i < nt) : sm_lb nt tk xo xj xl i < 256 := by
  unfold sm_lb
  have hb := sm_lb0b (xo := xo) (xj := xj) hx i
  split
  · exact Nat.lt_of_le_of_lt Nat.and_le_left hb
  · split
    · rename_i d
      have d' : tk i % 100 = 3 := by
        obtain ⟨e1, e2⟩ := sm_xoe h hi
        by_cases q : tk i % 100 = 24
        · rcases e2 q with z | z | z <;> omega
        · rw [← e1 q]; exact d
      refine Nat.or_lt_two_pow (n := 8) hb ?_
      exact Nat.pow_lt_pow_right (by decide) (sm_arv h hi (Or.inl d'))
    · exact hb
/-- a row that is sound and climbing -/
def sm_LQ (nt : Nat) (tk xo xj xl : Nat → Nat) : Prop := (∀ i, i < nt → xl i < 256) ∧ (∀ i, i < nt → ∀ v, v < 8 → (xl i).testBit v = true → sm_lv nt tk xo xj v i) ∧
  (∀ i, i < nt → ∀ v, v < 8 → (xl i).testBit v = true → (sm_lb nt tk xo xj xl i).testBit v = true)
theorem sm_LQ_step (h : sm_PG 0 np nt pm vs mk gl fi tk xo xj ow hh kk dp pt hd) {xl : Nat → Nat} (hq : sm_LQ nt tk xo xj xl) {k : Nat} (hk : k < nt) : sm_LQ nt tk xo xj (sm_u xl k (sm_lb nt tk xo xj xl k)) ∧ ∀ i, i < nt → ∀ v, v < 8 → (xl i).testBit v = true → (sm_u xl k (sm_lb nt tk xo xj xl k) i).testBit v = true := by
  obtain ⟨q1, q2, q3⟩ := hq
  have up : ∀ i, i < nt → ∀ v, v < 8 → (xl i).testBit v = true → (sm_u xl k (sm_lb nt tk xo xj xl k) i).testBit v = true := by
    intro i hi v hv hb
    by_cases e : i = k
    · subst e; rw [sm_us]; exact q3 i hi v hv hb
    · rw [sm_un e]; exact hb
  have b1 : ∀ i, i < nt → sm_u xl k (sm_lb nt tk xo xj xl k) i < 256 := by
    intro i hi
    by_cases e : i = k
    · subst e; rw [sm_us]; exact sm_lbb h q1 hi
    · rw [sm_un e]; exact q1 i hi
  have mono : ∀ i, i < nt → ∀ v, v < 8 → (sm_lb nt tk xo xj xl i).testBit v = true → (sm_lb nt tk xo xj (sm_u xl k (sm_lb nt tk xo xj xl k)) i).testBit v = true := by
    intro i hi v hv hb
    rw [sm_lbt h b1 hi hv]
    rw [sm_lbt h q1 hi hv] at hb
    rcases hb with z | ⟨z, s, hs, hb⟩
    · exact Or.inl z
    · refine Or.inr ⟨z, s, hs, up s ?_ v hv hb⟩
      rcases hs with hs | hs
      · exact (sm_s1f h hi hs).1
      · exact (sm_s2f h hi hs).1
  refine ⟨⟨b1, fun i hi v hv hb => ?_, fun i hi v hv hb => ?_⟩, up⟩
  · by_cases e : i = k
    · subst e
      rw [sm_us, sm_lbt h q1 hi hv] at hb
      rcases hb with z | ⟨z, s, hs, hb⟩
      · exact sm_ls_r ⟨hi, z⟩
      · refine sm_ls_e (q2 s ?_ v hv hb) ⟨hi, z, hs⟩
        rcases hs with hs | hs
        · exact (sm_s1f h hi hs).1
        · exact (sm_s2f h hi hs).1
    · rw [sm_un e] at hb
      exact q2 i hi v hv hb
  · by_cases e : i = k
    · subst e
      rw [sm_us] at hb
      exact mono i hi v hv hb
    · rw [sm_un e] at hb
      exact mono i hi v hv (q3 i hi v hv hb)
theorem sm_LQ_fix (h : sm_PG 0 np nt pm vs mk gl fi tk xo xj ow hh kk dp pt hd) {xl : Nat → Nat} (hq : sm_LQ nt tk xo xj xl) (hf : ∀ i, i < nt → sm_lb nt tk xo xj xl i = xl i) : sm_LV nt tk xo xj xl := by
  obtain ⟨q1, q2, q3⟩ := hq
  intro i hi
  refine ⟨q1 i hi, fun v hv => ⟨q2 i hi v hv, fun hl => ?_⟩⟩
  have := sm_ls_i hl (fun j => j < nt → (xl j).testBit v = true) (fun j hj _ => ?_) (fun s j hs hE _ => ?_)
  · exact this hi
  · rw [← hf j hj.1, sm_lbt h q1 hj.1 hv]
    exact Or.inl hj.2
  · obtain ⟨e1, e2, e3⟩ := hE
    rw [← hf j e1, sm_lbt h q1 e1 hv]
    refine Or.inr ⟨e2, s, e3, hs ?_⟩
    rcases e3 with e3 | e3
    · exact (sm_s1f h e1 e3).1
    · exact (sm_s2f h e1 e3).1
/-- the number of live bits -/
def sm_lc (xl : Nat → Nat) : Nat := sm_cnt (fun m => (xl (m / 8)).testBit (m % 8)) 1280
end
end
section
/-! the ops (printed by mkops.py) -/
section
variable {xle xpe sta opn xch xck xbc xcb xcc col res yh yd : Int32} {cp lm np nt fr sb us bo oc : Nat} {pm vs mk fi tk xo xj ow xh xk xl fp fa fh cb : Nat → Nat} {gl : Nat → Bool} {xbk xbp xbh sl cn cl cr fw ou yt yb ys yr lo st he nu lf rg : Nat → Int32} {hh kk dp : Nat → Nat} {pt hd : Nat → Nat → Nat}
variable {t p : Nat}
theorem sm_pop1 (h : t % 100 = 1) : sm_pop pm t = 0 := by unfold sm_pop; rw [h]; rfl
theorem sm_ps1 (h : t % 100 = 1) : sm_ps t = 1 := by unfold sm_ps; rw [h]; rfl
theorem sm_wk1 (h : t % 100 = 1) : sm_wk pm mk gl p t = 0 := by unfold sm_wk; rw [h]; rfl
theorem sm_pk1 (h : t % 100 = 1) : sm_pk mk gl p t = false := by unfold sm_pk; rw [h]; rfl
theorem sm_pop2 (h : t % 100 = 2) : sm_pop pm t = 0 := by unfold sm_pop; rw [h]; rfl
theorem sm_ps2 (h : t % 100 = 2) : sm_ps t = 1 := by unfold sm_ps; rw [h]; rfl
theorem sm_wk2 (h : t % 100 = 2) : sm_wk pm mk gl p t = 0 := by unfold sm_wk; rw [h]; rfl
theorem sm_pk2 (h : t % 100 = 2) : sm_pk mk gl p t = true := by unfold sm_pk; rw [h]; rfl
theorem sm_pop3 (h : t % 100 = 3) : sm_pop pm t = 0 := by unfold sm_pop; rw [h]; rfl
theorem sm_ps3 (h : t % 100 = 3) : sm_ps t = 1 := by unfold sm_ps; rw [h]; rfl
theorem sm_wk3 (h : t % 100 = 3) : sm_wk pm mk gl p t = 0 := by unfold sm_wk; rw [h]; rfl
theorem sm_pk3 (h : t % 100 = 3) : sm_pk mk gl p t = (mk p).testBit (t / 100) := by unfold sm_pk; rw [h]; rfl
theorem sm_pop4 (h : t % 100 = 4) : sm_pop pm t = 2 := by unfold sm_pop; rw [h]; rfl
theorem sm_ps4 (h : t % 100 = 4) : sm_ps t = 1 := by unfold sm_ps; rw [h]; rfl
theorem sm_wk4 (h : t % 100 = 4) : sm_wk pm mk gl p t = 0 := by unfold sm_wk; rw [h]; rfl
theorem sm_pk4 (h : t % 100 = 4) : sm_pk mk gl p t = false := by unfold sm_pk; rw [h]; rfl
theorem sm_pop5 (h : t % 100 = 5) : sm_pop pm t = 2 := by unfold sm_pop; rw [h]; rfl
theorem sm_ps5 (h : t % 100 = 5) : sm_ps t = 1 := by unfold sm_ps; rw [h]; rfl
theorem sm_wk5 (h : t % 100 = 5) : sm_wk pm mk gl p t = 0 := by unfold sm_wk; rw [h]; rfl
theorem sm_pk5 (h : t % 100 = 5) : sm_pk mk gl p t = false := by unfold sm_pk; rw [h]; rfl
theorem sm_pop6 (h : t % 100 = 6) : sm_pop pm t = 2 := by unfold sm_pop; rw [h]; rfl
theorem sm_ps6 (h : t % 100 = 6) : sm_ps t = 1 := by unfold sm_ps; rw [h]; rfl
theorem sm_wk6 (h : t % 100 = 6) : sm_wk pm mk gl p t = 0 := by unfold sm_wk; rw [h]; rfl
theorem sm_pk6 (h : t % 100 = 6) : sm_pk mk gl p t = false := by unfold sm_pk; rw [h]; rfl
theorem sm_pop7 (h : t % 100 = 7) : sm_pop pm t = 2 := by unfold sm_pop; rw [h]; rfl
theorem sm_ps7 (h : t % 100 = 7) : sm_ps t = 1 := by unfold sm_ps; rw [h]; rfl
theorem sm_wk7 (h : t % 100 = 7) : sm_wk pm mk gl p t = 0 := by unfold sm_wk; rw [h]; rfl
theorem sm_pk7 (h : t % 100 = 7) : sm_pk mk gl p t = false := by unfold sm_pk; rw [h]; rfl
theorem sm_pop8 (h : t % 100 = 8) : sm_pop pm t = 2 := by unfold sm_pop; rw [h]; rfl
theorem sm_ps8 (h : t % 100 = 8) : sm_ps t = 1 := by unfold sm_ps; rw [h]; rfl
theorem sm_wk8 (h : t % 100 = 8) : sm_wk pm mk gl p t = 0 := by unfold sm_wk; rw [h]; rfl
theorem sm_pk8 (h : t % 100 = 8) : sm_pk mk gl p t = false := by unfold sm_pk; rw [h]; rfl
theorem sm_pop9 (h : t % 100 = 9) : sm_pop pm t = 3 := by unfold sm_pop; rw [h]; rfl
theorem sm_ps9 (h : t % 100 = 9) : sm_ps t = 1 := by unfold sm_ps; rw [h]; rfl
theorem sm_wk9 (h : t % 100 = 9) : sm_wk pm mk gl p t = 6 := by unfold sm_wk; rw [h]; rfl
theorem sm_pk9 (h : t % 100 = 9) : sm_pk mk gl p t = true := by unfold sm_pk; rw [h]; rfl
theorem sm_pop10 (h : t % 100 = 10) : sm_pop pm t = 1 := by unfold sm_pop; rw [h]; rfl
theorem sm_ps10 (h : t % 100 = 10) : sm_ps t = 1 := by unfold sm_ps; rw [h]; rfl
theorem sm_wk10 (h : t % 100 = 10) : sm_wk pm mk gl p t = 1 := by unfold sm_wk; rw [h]; rfl
theorem sm_pk10 (h : t % 100 = 10) : sm_pk mk gl p t = false := by unfold sm_pk; rw [h]; rfl
theorem sm_pop11 (h : t % 100 = 11) : sm_pop pm t = 1 := by unfold sm_pop; rw [h]; rfl
theorem sm_ps11 (h : t % 100 = 11) : sm_ps t = 1 := by unfold sm_ps; rw [h]; rfl
theorem sm_wk11 (h : t % 100 = 11) : sm_wk pm mk gl p t = 1 := by unfold sm_wk; rw [h]; rfl
theorem sm_pk11 (h : t % 100 = 11) : sm_pk mk gl p t = true := by unfold sm_pk; rw [h]; rfl
theorem sm_pop12 (h : t % 100 = 12) : sm_pop pm t = 1 := by unfold sm_pop; rw [h]; rfl
theorem sm_ps12 (h : t % 100 = 12) : sm_ps t = 1 := by unfold sm_ps; rw [h]; rfl
theorem sm_wk12 (h : t % 100 = 12) : sm_wk pm mk gl p t = 1 := by unfold sm_wk; rw [h]; rfl
theorem sm_pk12 (h : t % 100 = 12) : sm_pk mk gl p t = true := by unfold sm_pk; rw [h]; rfl
theorem sm_pop13 (h : t % 100 = 13) : sm_pop pm t = pm (t / 100) := by unfold sm_pop; rw [h]; rfl
theorem sm_ps13 (h : t % 100 = 13) : sm_ps t = 1 := by unfold sm_ps; rw [h]; rfl
theorem sm_wk13 (h : t % 100 = 13) : sm_wk pm mk gl p t = mk (t / 100) % 2 ^ pm (t / 100) := by unfold sm_wk; rw [h]; rfl
theorem sm_pk13 (h : t % 100 = 13) : sm_pk mk gl p t = gl (t / 100) := by unfold sm_pk; rw [h]; rfl
theorem sm_pop14 (h : t % 100 = 14) : sm_pop pm t = 1 := by unfold sm_pop; rw [h]; rfl
theorem sm_ps14 (h : t % 100 = 14) : sm_ps t = 0 := by unfold sm_ps; rw [h]; rfl
theorem sm_wk14 (h : t % 100 = 14) : sm_wk pm mk gl p t = ((mk p).testBit (t / 100)).toNat := by unfold sm_wk; rw [h]; rfl
theorem sm_pk14 (h : t % 100 = 14) : sm_pk mk gl p t = false := by unfold sm_pk; rw [h]; rfl
theorem sm_pop15 (h : t % 100 = 15) : sm_pop pm t = 2 := by unfold sm_pop; rw [h]; rfl
theorem sm_ps15 (h : t % 100 = 15) : sm_ps t = 0 := by unfold sm_ps; rw [h]; rfl
theorem sm_wk15 (h : t % 100 = 15) : sm_wk pm mk gl p t = 1 := by unfold sm_wk; rw [h]; rfl
theorem sm_pk15 (h : t % 100 = 15) : sm_pk mk gl p t = false := by unfold sm_pk; rw [h]; rfl
theorem sm_pop16 (h : t % 100 = 16) : sm_pop pm t = 2 := by unfold sm_pop; rw [h]; rfl
theorem sm_ps16 (h : t % 100 = 16) : sm_ps t = 0 := by unfold sm_ps; rw [h]; rfl
theorem sm_wk16 (h : t % 100 = 16) : sm_wk pm mk gl p t = 3 := by unfold sm_wk; rw [h]; rfl
theorem sm_pk16 (h : t % 100 = 16) : sm_pk mk gl p t = false := by unfold sm_pk; rw [h]; rfl
theorem sm_pop17 (h : t % 100 = 17) : sm_pop pm t = 2 := by unfold sm_pop; rw [h]; rfl
theorem sm_ps17 (h : t % 100 = 17) : sm_ps t = 0 := by unfold sm_ps; rw [h]; rfl
theorem sm_wk17 (h : t % 100 = 17) : sm_wk pm mk gl p t = 3 := by unfold sm_wk; rw [h]; rfl
theorem sm_pk17 (h : t % 100 = 17) : sm_pk mk gl p t = false := by unfold sm_pk; rw [h]; rfl
theorem sm_pop18 (h : t % 100 = 18) : sm_pop pm t = 1 := by unfold sm_pop; rw [h]; rfl
theorem sm_ps18 (h : t % 100 = 18) : sm_ps t = 0 := by unfold sm_ps; rw [h]; rfl
theorem sm_wk18 (h : t % 100 = 18) : sm_wk pm mk gl p t = 0 := by unfold sm_wk; rw [h]; rfl
theorem sm_pk18 (h : t % 100 = 18) : sm_pk mk gl p t = false := by unfold sm_pk; rw [h]; rfl
theorem sm_pop19 (h : t % 100 = 19) : sm_pop pm t = 1 := by unfold sm_pop; rw [h]; rfl
theorem sm_ps19 (h : t % 100 = 19) : sm_ps t = 0 := by unfold sm_ps; rw [h]; rfl
theorem sm_wk19 (h : t % 100 = 19) : sm_wk pm mk gl p t = 0 := by unfold sm_wk; rw [h]; rfl
theorem sm_pk19 (h : t % 100 = 19) : sm_pk mk gl p t = false := by unfold sm_pk; rw [h]; rfl
theorem sm_pop20 (h : t % 100 = 20) : sm_pop pm t = 1 := by unfold sm_pop; rw [h]; rfl
theorem sm_ps20 (h : t % 100 = 20) : sm_ps t = 0 := by unfold sm_ps; rw [h]; rfl
theorem sm_wk20 (h : t % 100 = 20) : sm_wk pm mk gl p t = 0 := by unfold sm_wk; rw [h]; rfl
theorem sm_pk20 (h : t % 100 = 20) : sm_pk mk gl p t = false := by unfold sm_pk; rw [h]; rfl
theorem sm_pop21 (h : t % 100 = 21) : sm_pop pm t = 0 := by unfold sm_pop; rw [h]; rfl
theorem sm_ps21 (h : t % 100 = 21) : sm_ps t = 0 := by unfold sm_ps; rw [h]; rfl
theorem sm_wk21 (h : t % 100 = 21) : sm_wk pm mk gl p t = 0 := by unfold sm_wk; rw [h]; rfl
theorem sm_pk21 (h : t % 100 = 21) : sm_pk mk gl p t = false := by unfold sm_pk; rw [h]; rfl
theorem sm_pop22 (h : t % 100 = 22) : sm_pop pm t = 0 := by unfold sm_pop; rw [h]; rfl
theorem sm_ps22 (h : t % 100 = 22) : sm_ps t = 0 := by unfold sm_ps; rw [h]; rfl
theorem sm_wk22 (h : t % 100 = 22) : sm_wk pm mk gl p t = 0 := by unfold sm_wk; rw [h]; rfl
theorem sm_pk22 (h : t % 100 = 22) : sm_pk mk gl p t = false := by unfold sm_pk; rw [h]; rfl
theorem sm_pop23 (h : t % 100 = 23) : sm_pop pm t = 1 := by unfold sm_pop; rw [h]; rfl
theorem sm_ps23 (h : t % 100 = 23) : sm_ps t = 0 := by unfold sm_ps; rw [h]; rfl
theorem sm_wk23 (h : t % 100 = 23) : sm_wk pm mk gl p t = 0 := by unfold sm_wk; rw [h]; rfl
theorem sm_pk23 (h : t % 100 = 23) : sm_pk mk gl p t = false := by unfold sm_pk; rw [h]; rfl
theorem sm_pop24 (h : t % 100 = 24) : sm_pop pm t = 0 := by unfold sm_pop; rw [h]; rfl
theorem sm_ps24 (h : t % 100 = 24) : sm_ps t = 0 := by unfold sm_ps; rw [h]; rfl
theorem sm_wk24 (h : t % 100 = 24) : sm_wk pm mk gl p t = 0 := by unfold sm_wk; rw [h]; rfl
theorem sm_pk24 (h : t % 100 = 24) : sm_pk mk gl p t = false := by unfold sm_pk; rw [h]; rfl
theorem sm_pop25 (h : t % 100 = 25) : sm_pop pm t = 1 := by unfold sm_pop; rw [h]; rfl
theorem sm_ps25 (h : t % 100 = 25) : sm_ps t = 0 := by unfold sm_ps; rw [h]; rfl
theorem sm_wk25 (h : t % 100 = 25) : sm_wk pm mk gl p t = (gl p).toNat := by unfold sm_wk; rw [h]; rfl
theorem sm_pk25 (h : t % 100 = 25) : sm_pk mk gl p t = false := by unfold sm_pk; rw [h]; rfl
theorem sm_xpop {post : Int32 → Prop} (ht : t < 1000000) (o1 : 1 ≤ t % 100) (o2 : t % 100 ≤ 25) (hn : np ≤ 8) (h13 : t % 100 = 13 → t / 100 < np) (hp : post (nI (sm_pop pm t))) : wpX_popCount post (xle, xpe, nI cp, nI lm, sta, nI np, opn, nI nt, xch, xck, xbc, nI fr, nI sb, nI us, xcb, xcc, col, nI bo, nI oc, res, sm_n pm, sm_n vs, sm_n mk, sm_k gl, sm_n fi, sm_n tk, sm_n xo, sm_n (sm_ar tk), sm_n xj, sm_n ow, sm_n xh, sm_n xk, sm_n xl, xbk, xbp, xbh, sm_n fp, sm_n fa, sl, cn, cl, cr, sm_n cb, fw, ou) (nI (t % 100)) (nI (t / 100)) := by
  have c13 : t % 100 = 13 → ((nI (t / 100) < 0 → post 0) ∧ (¬ nI (t / 100) < 0 → ((nI np ≤ nI (t / 100) → post 0) ∧ (¬ nI np ≤ nI (t / 100) → (vp_in (nI (t / 100)) 8 ∧ post (sm_n pm (nI (t / 100)).toNatClampNeg)))))) := by
    intro e
    have hx := h13 e
    rw [sm_pop13 e] at hp
    exact br_f (nI_pos (by omega)) (br_f (nI_ge hx (by omega)) ⟨vp_in_nI (by omega) (by decide), by rw [nI_clamp (by omega)]; exact hp⟩)
  exact pk_lt (t % 100) 1 (fun h => absurd h (by omega)) (fun _ => pk_lt 24 (t % 100) (fun h => by rw [sm_pop25 (by omega)] at hp; exact hp) (fun _ => pk_eq (t % 100) 1 (fun e => by rw [sm_pop1 e] at hp; exact hp) (fun _ => pk_eq (t % 100) 2 (fun e => by rw [sm_pop2 e] at hp; exact hp) (fun _ => pk_eq (t % 100) 3 (fun e => by rw [sm_pop3 e] at hp; exact hp) (fun _ => pk_eq (t % 100) 4 (fun e => by rw [sm_pop4 e] at hp; exact hp) (fun _ => pk_eq (t % 100) 5 (fun e => by rw [sm_pop5 e] at hp; exact hp) (fun _ => pk_eq (t % 100) 6 (fun e => by rw [sm_pop6 e] at hp; exact hp) (fun _ => pk_eq (t % 100) 7 (fun e => by rw [sm_pop7 e] at hp; exact hp) (fun _ => pk_eq (t % 100) 8 (fun e => by rw [sm_pop8 e] at hp; exact hp) (fun _ => pk_eq (t % 100) 9 (fun e => by rw [sm_pop9 e] at hp; exact hp) (fun _ => pk_eq (t % 100) 10 (fun e => by rw [sm_pop10 e] at hp; exact hp) (fun _ => pk_eq (t % 100) 11 (fun e => by rw [sm_pop11 e] at hp; exact hp) (fun _ => pk_eq (t % 100) 12 (fun e => by rw [sm_pop12 e] at hp; exact hp) (fun _ => pk_eq (t % 100) 13 (fun e => c13 e) (fun _ => pk_eq (t % 100) 14 (fun e => by rw [sm_pop14 e] at hp; exact hp) (fun _ => pk_eq (t % 100) 15 (fun e => by rw [sm_pop15 e] at hp; exact hp) (fun _ => pk_eq (t % 100) 16 (fun e => by rw [sm_pop16 e] at hp; exact hp) (fun _ => pk_eq (t % 100) 17 (fun e => by rw [sm_pop17 e] at hp; exact hp) (fun _ => pk_eq (t % 100) 18 (fun e => by rw [sm_pop18 e] at hp; exact hp) (fun _ => pk_eq (t % 100) 19 (fun e => by rw [sm_pop19 e] at hp; exact hp) (fun _ => pk_eq (t % 100) 20 (fun e => by rw [sm_pop20 e] at hp; exact hp) (fun _ => pk_eq (t % 100) 21 (fun e => by rw [sm_pop21 e] at hp; exact hp) (fun _ => pk_eq (t % 100) 22 (fun e => by rw [sm_pop22 e] at hp; exact hp) (fun _ => pk_eq (t % 100) 23 (fun e => by rw [sm_pop23 e] at hp; exact hp) (fun _ => pk_eq (t % 100) 24 (fun e => by rw [sm_pop24 e] at hp; exact hp) (fun _ => trivial))))))))))))))))))))))))))
theorem sm_xpk {post : Int32 → Prop} (ht : t < 1000000) (o1 : 1 ≤ t % 100) (o2 : t % 100 ≤ 25) (hn : np ≤ 8) (hn1 : 1 ≤ np) (h13 : t % 100 = 13 → t / 100 < np) (hpm : ∀ q, q < np → pm q ≤ 3) (hmk : ∀ q, q < np → mk q < 256) (h14 : t % 100 = 14 → t / 100 < 8) (hp : post (nI (sm_wk pm mk gl (np - 1) t))) : wpX_popKinds post (xle, xpe, nI cp, nI lm, sta, nI np, opn, nI nt, xch, xck, xbc, nI fr, nI sb, nI us, xcb, xcc, col, nI bo, nI oc, res, sm_n pm, sm_n vs, sm_n mk, sm_k gl, sm_n fi, sm_n tk, sm_n xo, sm_n (sm_ar tk), sm_n xj, sm_n ow, sm_n xh, sm_n xk, sm_n xl, xbk, xbp, xbh, sm_n fp, sm_n fa, sl, cn, cl, cr, sm_n cb, fw, ou) (nI (t % 100)) (nI (t / 100)) := by
  have c13 : t % 100 = 13 → ((nI (t / 100) < 0 → post 0) ∧ (¬ nI (t / 100) < 0 → ((nI np ≤ nI (t / 100) → post 0) ∧ (¬ nI np ≤ nI (t / 100) → (vp_in (nI (t / 100)) 8 ∧ (vp_in (nI (t / 100)) 8 ∧ post (sm_n mk (nI (t / 100)).toNatClampNeg &&& ((1 : Int32) <<< (sm_n pm (nI (t / 100)).toNatClampNeg &&& 31) - 1)))))))) := by
    intro e
    have hx := h13 e
    have hq := hpm _ hx
    rw [sm_wk13 e] at hp
    refine br_f (nI_pos (by omega)) (br_f (nI_ge hx (by omega)) ⟨vp_in_nI (by omega) (by decide), vp_in_nI (by omega) (by decide), ?_⟩)
    rw [nI_clamp (by omega), sm_nap, sm_nap, sm_msk (by omega), sm_and, Nat.and_two_pow_sub_one_eq_mod]
    exact hp
  have hm := hmk (np - 1) (by omega)
  have c14 : t % 100 = 14 → (vp_in (nI np - 1) 8 ∧ post ((sm_n mk (nI np - 1).toNatClampNeg >>> (nI (t / 100) &&& 31)) &&& 1)) := by
    intro e
    rw [sm_wk14 e] at hp
    rw [sm_sb1 hn1, nI_clamp (by omega), sm_nap, sm_bit (by omega) (by have := h14 e; omega)]
    exact ⟨vp_in_nI (by omega) (by decide), hp⟩
  have c25 : t % 100 = 25 → (vp_in (nI np - 1) 8 ∧ post (sm_k gl (nI np - 1).toNatClampNeg)) := by
    intro e
    rw [sm_wk25 e] at hp
    rw [sm_sb1 hn1, nI_clamp (by omega), sm_kap]
    exact ⟨vp_in_nI (by omega) (by decide), hp⟩
  exact pk_lt (t % 100) 9 (fun h => by rw [show sm_wk pm mk gl (np - 1) t = 0 from by unfold sm_wk; simp only [show ¬ t % 100 = 9 by omega, show ¬ t % 100 = 10 by omega, show ¬ t % 100 = 11 by omega, show ¬ t % 100 = 12 by omega, show ¬ t % 100 = 13 by omega, show ¬ t % 100 = 14 by omega, show ¬ t % 100 = 15 by omega, show ¬ t % 100 = 16 by omega, show ¬ t % 100 = 17 by omega, show ¬ t % 100 = 25 by omega, if_false, or_self]] at hp; exact hp) (fun _ => pk_lt 25 (t % 100) (fun h => absurd h (by omega)) (fun _ => pk_eq (t % 100) 9 (fun e => by rw [sm_wk9 e] at hp; exact hp) (fun _ => pk_eq (t % 100) 10 (fun e => by rw [sm_wk10 e] at hp; exact hp) (fun _ => pk_eq (t % 100) 11 (fun e => by rw [sm_wk11 e] at hp; exact hp) (fun _ => pk_eq (t % 100) 12 (fun e => by rw [sm_wk12 e] at hp; exact hp) (fun _ => pk_eq (t % 100) 13 (fun e => c13 e) (fun _ => pk_eq (t % 100) 14 (fun e => c14 e) (fun _ => pk_eq (t % 100) 15 (fun e => by rw [sm_wk15 e] at hp; exact hp) (fun _ => pk_eq (t % 100) 16 (fun e => by rw [sm_wk16 e] at hp; exact hp) (fun _ => pk_eq (t % 100) 17 (fun e => by rw [sm_wk17 e] at hp; exact hp) (fun _ => pk_eq (t % 100) 18 (fun e => by rw [sm_wk18 e] at hp; exact hp) (fun _ => pk_eq (t % 100) 19 (fun e => by rw [sm_wk19 e] at hp; exact hp) (fun _ => pk_eq (t % 100) 20 (fun e => by rw [sm_wk20 e] at hp; exact hp) (fun _ => pk_eq (t % 100) 21 (fun e => by rw [sm_wk21 e] at hp; exact hp) (fun _ => pk_eq (t % 100) 22 (fun e => by rw [sm_wk22 e] at hp; exact hp) (fun _ => pk_eq (t % 100) 23 (fun e => by rw [sm_wk23 e] at hp; exact hp) (fun _ => pk_eq (t % 100) 24 (fun e => by rw [sm_wk24 e] at hp; exact hp) (fun _ => pk_eq (t % 100) 25 (fun e => c25 e) (fun _ => trivial)))))))))))))))))))
theorem sm_xps {post : Int32 → Prop} (ht : t < 1000000) (o1 : 1 ≤ t % 100) (o2 : t % 100 ≤ 13) (hn : np ≤ 8) (hn1 : 1 ≤ np) (h13 : t % 100 = 13 → t / 100 < np) (hmk : ∀ q, q < np → mk q < 256) (h3 : t % 100 = 3 → t / 100 < 8) (hp : post (nI (sm_pk mk gl (np - 1) t).toNat)) : wpX_pushKind post (xle, xpe, nI cp, nI lm, sta, nI np, opn, nI nt, xch, xck, xbc, nI fr, nI sb, nI us, xcb, xcc, col, nI bo, nI oc, res, sm_n pm, sm_n vs, sm_n mk, sm_k gl, sm_n fi, sm_n tk, sm_n xo, sm_n (sm_ar tk), sm_n xj, sm_n ow, sm_n xh, sm_n xk, sm_n xl, xbk, xbp, xbh, sm_n fp, sm_n fa, sl, cn, cl, cr, sm_n cb, fw, ou) (nI (t % 100)) (nI (t / 100)) := by
  have c13 : t % 100 = 13 → ((nI (t / 100) < 0 → post 0) ∧ (¬ nI (t / 100) < 0 → ((nI np ≤ nI (t / 100) → post 0) ∧ (¬ nI np ≤ nI (t / 100) → (vp_in (nI (t / 100)) 8 ∧ post (sm_k gl (nI (t / 100)).toNatClampNeg)))))) := by
    intro e
    have hx := h13 e
    rw [sm_pk13 e] at hp
    refine br_f (nI_pos (by omega)) (br_f (nI_ge hx (by omega)) ⟨vp_in_nI (by omega) (by decide), ?_⟩)
    rw [nI_clamp (by omega)]
    exact hp
  have hm := hmk (np - 1) (by omega)
  have c3 : t % 100 = 3 → (vp_in (nI np - 1) 8 ∧ post ((sm_n mk (nI np - 1).toNatClampNeg >>> (nI (t / 100) &&& 31)) &&& 1)) := by
    intro e
    rw [sm_pk3 e] at hp
    rw [sm_sb1 hn1, nI_clamp (by omega), sm_nap, sm_bit (by omega) (by have := h3 e; omega)]
    exact ⟨vp_in_nI (by omega) (by decide), hp⟩
  exact pk_lt (t % 100) 2 (fun h => by rw [sm_pk1 (by omega)] at hp; exact hp) (fun _ => pk_lt 13 (t % 100) (fun h => absurd h (by omega)) (fun _ => pk_eq (t % 100) 2 (fun e => by rw [sm_pk2 e] at hp; exact hp) (fun _ => pk_eq (t % 100) 3 (fun e => c3 e) (fun _ => pk_eq (t % 100) 4 (fun e => by rw [sm_pk4 e] at hp; exact hp) (fun _ => pk_eq (t % 100) 5 (fun e => by rw [sm_pk5 e] at hp; exact hp) (fun _ => pk_eq (t % 100) 6 (fun e => by rw [sm_pk6 e] at hp; exact hp) (fun _ => pk_eq (t % 100) 7 (fun e => by rw [sm_pk7 e] at hp; exact hp) (fun _ => pk_eq (t % 100) 8 (fun e => by rw [sm_pk8 e] at hp; exact hp) (fun _ => pk_eq (t % 100) 9 (fun e => by rw [sm_pk9 e] at hp; exact hp) (fun _ => pk_eq (t % 100) 10 (fun e => by rw [sm_pk10 e] at hp; exact hp) (fun _ => pk_eq (t % 100) 11 (fun e => by rw [sm_pk11 e] at hp; exact hp) (fun _ => pk_eq (t % 100) 12 (fun e => by rw [sm_pk12 e] at hp; exact hp) (fun _ => pk_eq (t % 100) 13 (fun e => c13 e) (fun _ => trivial))))))))))))))
theorem sm_ypop {post : Int32 → Prop} (ht : t < 1000000) (h13 : t % 100 = 13 → t / 100 < 8) (hp : post (nI (sm_pop pm t))) : wpY_popped post (nI cp, nI lm, sta, nI np, opn, nI nt, yh, yd, nI fr, nI bo, col, nI oc, res, sm_n tk, sm_n fi, sm_n pm, sm_n vs, sm_n mk, sm_k gl, yt, yb, ys, yr, sm_n fp, sm_n fa, sm_n fh, lo, st, he, nu, lf, rg, ou) (nI t) := by
  refine And.intro sm_100 (nm_r (sm_rm (by omega)) ?_)
  unfold sm_pop at hp
  refine pk_le (t % 100) 3 (fun h => ?_) (fun h => ?_)
  · rw [if_pos h] at hp; exact hp
  rw [if_neg (by omega)] at hp
  refine pk_eq (t % 100) 21 (fun h => ?_) (fun h => ?_)
  · rw [if_pos h] at hp; exact hp
  rw [if_neg (by omega)] at hp
  refine pk_eq (t % 100) 22 (fun h => ?_) (fun h => ?_)
  · rw [if_pos h] at hp; exact hp
  rw [if_neg (by omega)] at hp
  refine pk_eq (t % 100) 24 (fun h => ?_) (fun h => ?_)
  · rw [if_pos h] at hp; exact hp
  rw [if_neg (by omega)] at hp
  refine pk_eq (t % 100) 9 (fun h => ?_) (fun h => ?_)
  · rw [if_pos h] at hp; exact hp
  rw [if_neg (by omega)] at hp
  refine pk_eq (t % 100) 13 (fun h => ?_) (fun h => ?_)
  · rw [if_pos h] at hp
    have h8 := h13 h
    rw [sm_dv (show t < 2 ^ 31 by omega), nI_clamp (by omega)]
    exact ⟨sm_100, vp_in_nI h8 (by decide), hp⟩
  rw [if_neg (by omega)] at hp
  refine pk_le (t % 100) 8 (fun h => ?_) (fun h => ?_)
  · rw [if_pos h] at hp; exact hp
  rw [if_neg (by omega)] at hp
  refine pk_lt (t % 100) 15 (fun h => ?_) (fun h => ?_)
  · rw [if_pos h] at hp; exact hp
  rw [if_neg (by omega)] at hp
  refine pk_lt 17 (t % 100) (fun h => ?_) (fun h => ?_)
  · rw [if_pos h] at hp; exact hp
  rw [if_neg (by omega)] at hp
  exact hp
theorem sm_yps {post : Int32 → Prop} (ht : t < 1000000) (hp8 : p < 8) (hmk : mk p < 256) (h13 : t % 100 = 13 → t / 100 < 8) (h3 : t % 100 = 3 → t / 100 < 8) (hp : t % 100 ≤ 13 → post (nI (sm_pk mk gl p t).toNat)) (hq : 13 < t % 100 → post (-1)) : wpY_pushed post (nI cp, nI lm, sta, nI np, opn, nI nt, yh, yd, nI fr, nI bo, col, nI oc, res, sm_n tk, sm_n fi, sm_n pm, sm_n vs, sm_n mk, sm_k gl, yt, yb, ys, yr, sm_n fp, sm_n fa, sm_n fh, lo, st, he, nu, lf, rg, ou) (nI t) (nI p) := by
  refine And.intro sm_100 (nm_r (sm_rm (by omega)) ?_)
  unfold sm_pk at hp
  refine pk_eq (t % 100) 3 (fun h => ?_) (fun h => ?_)
  · have hp := hp (by omega)
    rw [if_pos h] at hp
    have := h3 h
    rw [sm_dv (show t < 2 ^ 31 by omega), nI_clamp (by omega), sm_nap, sm_bit (by omega) (by omega)]
    exact ⟨vp_in_nI hp8 (by decide), sm_100, hp⟩
  rw [if_neg h] at hp
  refine pk_eq (t % 100) 13 (fun h => ?_) (fun h => ?_)
  · have hp := hp (by omega)
    rw [if_pos h] at hp
    have := h13 h
    rw [sm_dv (show t < 2 ^ 31 by omega), nI_clamp (by omega), sm_kap]
    exact ⟨sm_100, vp_in_nI (by omega) (by decide), hp⟩
  rw [if_neg h] at hp
  refine pk_eq (t % 100) 2 (fun h => ?_) (fun h => ?_)
  · have hp := hp (by omega)
    rw [decide_eq_true (by omega)] at hp
    exact hp
  refine pk_eq (t % 100) 9 (fun h => ?_) (fun h => ?_)
  · have hp := hp (by omega)
    rw [decide_eq_true (by omega)] at hp
    exact hp
  refine pk_eq (t % 100) 11 (fun h => ?_) (fun h => ?_)
  · have hp := hp (by omega)
    rw [decide_eq_true (by omega)] at hp
    exact hp
  refine pk_eq (t % 100) 12 (fun h => ?_) (fun h => ?_)
  · have hp := hp (by omega)
    rw [decide_eq_true (by omega)] at hp
    exact hp
  refine pk_lt 10 (t % 100) (fun h => hq (by omega)) (fun h => ?_)
  have hp := hp (by omega)
  rw [decide_eq_false (by omega)] at hp
  exact hp
theorem sm_ywa {post : Int32 → Prop} {k : Nat} (ht : t < 1000000) (o1 : 1 ≤ t % 100) (o2 : t % 100 ≤ 25) (hp8 : p < 8) (hmk : ∀ q, q < 8 → mk q < 256) (h13 : t % 100 = 13 → t / 100 < 8) (h14 : t % 100 = 14 → t / 100 < 8) (hk : k < sm_pop pm t) (hk3 : k < 3) (n8 : t % 100 ≠ 8) (n19 : t % 100 ≠ 19) (hp : post (nI ((sm_wk pm mk gl p t).testBit k).toNat)) : wpY_wanted post (nI cp, nI lm, sta, nI np, opn, nI nt, yh, yd, nI fr, nI bo, col, nI oc, res, sm_n tk, sm_n fi, sm_n pm, sm_n vs, sm_n mk, sm_k gl, yt, yb, ys, yr, sm_n fp, sm_n fa, sm_n fh, lo, st, he, nu, lf, rg, ou) (nI t) (nI k) (nI p) := by
  refine And.intro sm_100 (nm_r (sm_rm (by omega)) ?_)
  refine br_f (fun z => n8 ((sm_eq8 (by omega)).mp z)) ?_
  refine pk_eq (t % 100) 9 (fun h => ?_) (fun h9 => ?_)
  · rw [sm_wk9 h] at hp
    refine pk_eq k 0 (fun e => ?_) (fun e => ?_)
    · rw [e] at hp; exact hp
    · have : k = 1 ∨ k = 2 := by omega
      rcases this with e | e <;> (rw [e] at hp; exact hp)
  refine pk_eq (t % 100) 13 (fun h => ?_) (fun h13n => ?_)
  · rw [sm_wk13 h, Nat.testBit_mod_two_pow] at hp
    rw [sm_pop13 h] at hk
    have h8 := h13 h
    have := hmk _ h8
    rw [sm_dv (show t < 2 ^ 31 by omega), nI_clamp (by omega), sm_nap, sm_bit (by omega) (by omega)]
    rw [decide_eq_true hk, Bool.true_and] at hp
    exact ⟨sm_100, vp_in_nI h8 (by decide), hp⟩
  refine pk_eq (t % 100) 14 (fun h => ?_) (fun h14n => ?_)
  · rw [sm_wk14 h] at hp
    rw [sm_pop14 h] at hk
    have h8 := h14 h
    have := hmk p hp8
    have e0 : k = 0 := by omega
    rw [sm_dv (show t < 2 ^ 31 by omega), nI_clamp (show p < 2 ^ 31 by omega), sm_nap, sm_bit (by omega) (by omega)]
    rw [e0] at hp
    refine ⟨vp_in_nI hp8 (by decide), sm_100, ?_⟩
    cases hb : (mk p).testBit (t / 100) <;> (rw [hb] at hp; exact hp)
  refine pk_eq (t % 100) 15 (fun h => ?_) (fun h15 => ?_)
  · rw [sm_wk15 h] at hp
    refine pk_eq k 0 (fun e => ?_) (fun e => ?_)
    · rw [e] at hp; exact hp
    · have : k = 1 ∨ k = 2 := by omega
      rcases this with e | e <;> (rw [e] at hp; exact hp)
  refine br_f (fun z => n19 ((sm_eq19 (by omega)).mp z)) ?_
  refine pk_eq (t % 100) 25 (fun h => ?_) (fun h25 => ?_)
  · rw [sm_wk25 h] at hp
    rw [sm_pop25 h] at hk
    have e0 : k = 0 := by omega
    rw [e0] at hp
    rw [nI_clamp (show p < 2 ^ 31 by omega), sm_kap]
    refine ⟨vp_in_nI hp8 (by decide), ?_⟩
    cases hb : gl p <;> (rw [hb] at hp; exact hp)
  have j138 : ¬ (10 ≤ t % 100 ∧ t % 100 ≤ 12) → wY_wanted_138 post (nI (t % 100)) (nI cp) (nI lm) sta (nI np) opn (nI nt) yh yd (nI fr) (nI bo) col (nI oc) res (sm_n tk) (sm_n fi) (sm_n pm) (sm_n vs) (sm_n mk) (sm_k gl) yt yb ys yr (sm_n fp) (sm_n fa) (sm_n fh) lo st he nu lf rg ou := by
    intro hn
    refine pk_eq (t % 100) 16 (fun h => ?_) (fun h16 => pk_eq (t % 100) 17 (fun h => ?_) (fun h17 => ?_))
    · rw [sm_wk16 h] at hp
      rw [sm_pop16 h] at hk
      have : k = 0 ∨ k = 1 := by omega
      rcases this with e | e <;> (rw [e] at hp; exact hp)
    · rw [sm_wk17 h] at hp
      rw [sm_pop17 h] at hk
      have : k = 0 ∨ k = 1 := by omega
      rcases this with e | e <;> (rw [e] at hp; exact hp)
    · rw [show sm_wk pm mk gl p t = 0 from by unfold sm_wk; simp only [h9, h13n, h14n, h15, h25, h16, h17, show ¬ t % 100 = 10 by omega, show ¬ t % 100 = 11 by omega, show ¬ t % 100 = 12 by omega, if_false, or_self], Nat.zero_testBit] at hp
      exact hp
  refine pk_lt (t % 100) 10 (fun h => j138 (by omega)) (fun h10 => pk_le (t % 100) 12 (fun h12 => ?_) (fun h12 => j138 (by omega)))
  have h1 : sm_pop pm t = 1 ∧ sm_wk pm mk gl p t = 1 := by
    have : t % 100 = 10 ∨ t % 100 = 11 ∨ t % 100 = 12 := by omega
    rcases this with e | e | e
    · exact ⟨sm_pop10 e, sm_wk10 e⟩
    · exact ⟨sm_pop11 e, sm_wk11 e⟩
    · exact ⟨sm_pop12 e, sm_wk12 e⟩
  have e0 : k = 0 := by omega
  rw [h1.2, e0] at hp
  exact hp
/-- the kinds behind a token, by their bits -/
theorem sm_k2t {h k q : Nat} : (sm_k2 pm mk gl p t h k).testBit q = (if q < h - sm_pop pm t then k.testBit q else (decide (t % 100 ≤ 13) && (decide (q = h - sm_pop pm t) && sm_pk mk gl p t))) := by
  unfold sm_k2
  rw [Nat.testBit_or, Nat.testBit_mod_two_pow]
  generalize h - sm_pop pm t = r
  generalize sm_pk mk gl p t = b
  by_cases c : t % 100 ≤ 13
  · rw [if_pos c, Nat.testBit_mul_two_pow, decide_eq_true c, Bool.true_and]
    by_cases hq : q < r
    · rw [if_pos hq, decide_eq_true hq, decide_eq_false (by omega)]
      simp
    · rw [if_neg hq, decide_eq_false hq, decide_eq_true (show r ≤ q by omega), Bool.false_and, Bool.false_or, Bool.true_and, Nat.testBit_bool_toNat]
      by_cases e : q = r
      · subst e
        simp
      · have e2 : ¬ q - r = 0 := by omega
        simp [e, e2]
  · rw [if_neg c, Nat.zero_testBit, decide_eq_false c, Bool.false_and, Bool.or_false]
    by_cases hq : q < r
    · rw [if_pos hq, decide_eq_true hq, Bool.true_and]
    · rw [if_neg hq, decide_eq_false hq, Bool.false_and]
end
end
section
/-! the reference's walk up to a token -/
section
variable {xle xpe sta opn xch xck xbc xcb xcc col res yh yd : Int32} {cp lm np nt fr sb us bo oc : Nat} {pm vs mk fi tk xo xj ow xh xk xl fp fa fh cb : Nat → Nat} {gl : Nat → Bool} {xbk xbp xbh sl cn cl cr fw ou yt yb ys yr lo st he nu lf rg : Nat → Int32} {hh kk dp : Nat → Nat} {pt hd : Nat → Nat → Nat}
variable {post : SY → Prop} {x1 x2 opn' : Int32} {i : Nat} {J : Int32 → Int32 → Int32 → (Nat → Int32) → (Nat → Int32) → (Nat → Int32) → (Nat → Int32) → (Nat → Int32) → (Nat → Int32) → (Nat → Int32) → (Nat → Int32) → (Nat → Int32) → (Nat → Int32) → (Nat → Int32) → (Nat → Int32) → (Nat → Int32) → (Nat → Int32) → (Nat → Int32) → (Nat → Int32) → (Nat → Int32) → (Nat → Int32) → (Nat → Int32) → (Nat → Int32) → Prop}
/-- the blocks at token j -/
def sm_bk (tk dp : Nat → Nat) (pt : Nat → Nat → Nat) (j : Nat) (yb : Nat → Int32) : Prop := ∀ l, l < dp j → yb l = nI (tk (pt j l))
/-- the types at token j -/
def sm_tt (hh kk : Nat → Nat) (j : Nat) (yt : Nat → Int32) : Prop := ∀ q, q < hh j → yt q = nI ((kk j).testBit q).toNat
theorem sm_yw164 {j d : Nat} {o : Nat} (ho : o < 100) (hd6 : d < 100) (h : J (nI (j + 1)) yh (nI (if o = 24 then d - 1 else d)) (sm_n tk) (sm_n fi) (sm_n pm) (sm_n vs) (sm_n mk) (sm_k gl) yt yb ys yr (sm_n fp) (sm_n fa) (sm_n fh) lo st he nu lf rg ou) : wY_walk_164 post J x1 x2 (nI j) (nI o) (nI cp) (nI lm) sta (nI np) opn (nI nt) yh (nI d) (nI fr) (nI bo) col (nI oc) res (sm_n tk) (sm_n fi) (sm_n pm) (sm_n vs) (sm_n mk) (sm_k gl) yt yb ys yr (sm_n fp) (sm_n fa) (sm_n fh) lo st he nu lf rg ou := by
  refine pk_eq o 24 (fun e => ?_) (fun e => ?_)
  · rw [if_pos e] at h
    refine pk_le d 0 (fun z => nm_r (nI_1 j) ?_) (fun z => nm_r (sm_sb1 (by omega)) (nm_r (nI_1 j) h))
    rw [show d - 1 = d by omega] at h
    exact h
  · rw [if_neg e] at h
    exact nm_r (nI_1 j) h
theorem sm_yw130 {j d : Nat} {o : Nat} (ho : o < 100) (hd6 : d ≤ 6) (h1 : o = 21 ∨ o = 23 → 1 ≤ d)
    (h : J (nI (j + 1)) yh (nI (if o = 24 then d - 1 else d)) (sm_n tk) (sm_n fi) (sm_n pm) (sm_n vs) (sm_n mk) (sm_k gl) yt (if o = 21 ∨ o = 23 then upd yb (d - 1) (nI o) else yb) ys yr (sm_n fp) (sm_n fa) (sm_n fh) lo st he nu lf rg ou) : wY_walk_130 post J x1 x2 (nI j) (nI o) (nI cp) (nI lm) sta (nI np) opn (nI nt) yh (nI d) (nI fr) (nI bo) col (nI oc) res (sm_n tk) (sm_n fi) (sm_n pm) (sm_n vs) (sm_n mk) (sm_k gl) yt yb ys yr (sm_n fp) (sm_n fa) (sm_n fh) lo st he nu lf rg ou := by
  have k : o = 21 ∨ o = 23 → wY_walk_144 post J x1 x2 (nI j) (nI o) (nI cp) (nI lm) sta (nI np) opn (nI nt) yh (nI d) (nI fr) (nI bo) col (nI oc) res (sm_n tk) (sm_n fi) (sm_n pm) (sm_n vs) (sm_n mk) (sm_k gl) yt yb ys yr (sm_n fp) (sm_n fa) (sm_n fh) lo st he nu lf rg ou := by
    intro e
    have d1 := h1 e
    rw [if_pos e] at h
    refine pk_le d 0 (fun z => absurd z (by omega)) (fun z => ?_)
    rw [sm_sb1 d1, nI_clamp (show d - 1 < 2 ^ 31 by omega)]
    exact ⟨vp_in_nI (by omega) (by decide), nm_e (sm_yw164 ho (by omega) h)⟩
  refine pk_eq o 21 (fun e => k (Or.inl e)) (fun e => pk_eq o 23 (fun e => k (Or.inr e)) (fun e2 => ?_))
  rw [if_neg (show ¬ (o = 21 ∨ o = 23) by omega)] at h
  exact sm_yw164 ho (by omega) h
/-- one token's effect on the blocks -/
theorem sm_yw95 (hA : sm_tA np vs tk ow i) (hC : sm_tC tk dp pt hd i) (hd6 : dp i ≤ 6) (hb : sm_bk tk dp pt i yb)
    (h : ∀ yb', sm_bk tk dp pt (i + 1) yb' → J (nI (i + 1)) yh (nI (dp (i + 1))) (sm_n tk) (sm_n fi) (sm_n pm) (sm_n vs) (sm_n mk) (sm_k gl) yt yb' ys yr (sm_n fp) (sm_n fa) (sm_n fh) lo st he nu lf rg ou) : wY_walk_95 post J x1 x2 (nI i) (nI (tk i % 100)) (nI cp) (nI lm) sta (nI np) opn (nI nt) yh (nI (dp i)) (nI fr) (nI bo) col (nI oc) res (sm_n tk) (sm_n fi) (sm_n pm) (sm_n vs) (sm_n mk) (sm_k gl) yt yb ys yr (sm_n fp) (sm_n fa) (sm_n fh) lo st he nu lf rg ou := by
  obtain ⟨a1, a2, a3, a4, _⟩ := hA
  obtain ⟨c1, c2, c3, c4, c5⟩ := hC
  have ho : tk i % 100 < 100 := Nat.mod_lt _ (by decide)
  by_cases e1 : tk i % 100 = 20 ∨ tk i % 100 = 22
  · obtain ⟨d1, d2, d3, _⟩ := c1 e1
    have ht := a4 (by omega) (by omega) (by omega) (by omega)
    have k : wY_walk_109 post J x1 x2 (nI i) (nI (tk i % 100)) (nI cp) (nI lm) sta (nI np) opn (nI nt) yh (nI (dp i)) (nI fr) (nI bo) col (nI oc) res (sm_n tk) (sm_n fi) (sm_n pm) (sm_n vs) (sm_n mk) (sm_k gl) yt yb ys yr (sm_n fp) (sm_n fa) (sm_n fh) lo st he nu lf rg ou := by
      rw [wY_walk_109, nI_clamp (show dp i < 2 ^ 31 by omega)]
      refine ⟨vp_in_nI d1 (by decide), nm_e (nm_r (nI_1 (dp i)) (sm_yw130 ho (by omega) (by omega) ?_))⟩
      rw [if_neg (by omega), if_neg (by omega), ← d2]
      refine h _ (fun l hl => ?_)
      rw [d3]
      by_cases e : l = dp i
      · rw [e, sm_us, pk_us, show tk i = tk i % 100 by omega]
        congr 1
        omega
      · rw [sm_un e, pk_un e]
        exact hb l (by omega)
    exact pk_eq (tk i % 100) 20 (fun _ => k) (fun _ => pk_eq (tk i % 100) 22 (fun _ => k) (fun z => absurd e1 (by omega)))
  · refine pk_eq (tk i % 100) 20 (fun z => absurd (Or.inl z) e1) (fun _ => pk_eq (tk i % 100) 22 (fun z => absurd (Or.inr z) e1) (fun _ => ?_))
    refine sm_yw130 ho hd6 ?_ ?_
    · rintro (z | z)
      · exact (c2 z).1
      · exact (c3 z).1
    by_cases e2 : tk i % 100 = 21 ∨ tk i % 100 = 23
    · have ht := a4 (by omega) (by omega) (by omega) (by omega)
      obtain ⟨d1, d2, d3⟩ : 1 ≤ dp i ∧ dp (i + 1) = dp i ∧ pt (i + 1) = sm_u (pt i) (dp i - 1) i := by
        rcases e2 with z | z
        · exact ⟨(c2 z).1, (c2 z).2.2.1, (c2 z).2.2.2.1⟩
        · exact ⟨(c3 z).1, (c3 z).2.2.1, (c3 z).2.2.2.1⟩
      rw [if_pos e2, if_neg (by omega), ← d2]
      refine h _ (fun l hl => ?_)
      rw [d3]
      by_cases e : l = dp (i + 1) - 1
      · rw [e, pk_us, d2, sm_us]
        congr 1
        omega
      · rw [pk_un e, sm_un (by omega)]
        exact hb l (by omega)
    · rw [if_neg e2]
      by_cases e4 : tk i % 100 = 24
      · obtain ⟨_, d2, d3, _⟩ := c4 e4
        rw [if_pos e4, ← d2]
        refine h _ (fun l hl => ?_)
        rw [d3]
        exact hb l (by omega)
      · obtain ⟨d2, d3, _⟩ := c5 (by omega)
        rw [if_neg e4, ← d2]
        refine h _ (fun l hl => ?_)
        rw [d3]
        exact hb l (by omega)
/-- the loop -/
theorem sm_yw17 (hP : sm_PG opn' np nt pm vs mk gl fi tk xo xj ow hh kk dp pt hd) {p i : Nat} (hp : p < np) (hi : i ≤ nt) (how : ∀ k, fi p ≤ k → k < i → ow k = p) :
    ∀ m j yt yb, j ≤ i → fi p ≤ j → i - j < m → sm_tt hh kk j yt → sm_bk tk dp pt j yb →
    (∀ yt' yb', sm_tt hh kk i yt' → sm_bk tk dp pt i yb' → post (nI cp, nI lm, sta, nI np, opn, nI nt, nI (hh i), nI (dp i), nI fr, nI bo, col, nI oc, res, sm_n tk, sm_n fi, sm_n pm, sm_n vs, sm_n mk, sm_k gl, yt', yb', ys, yr, sm_n fp, sm_n fa, sm_n fh, lo, st, he, nu, lf, rg, ou)) →
    wY_walk_17 post (nI p) (nI i) (nI cp) (nI lm) sta (nI np) opn (nI nt) (nI fr) (nI bo) col (nI oc) res m (nI j) (nI (hh j)) (nI (dp j)) (sm_n tk) (sm_n fi) (sm_n pm) (sm_n vs) (sm_n mk) (sm_k gl) yt yb ys yr (sm_n fp) (sm_n fa) (sm_n fh) lo st he nu lf rg ou := by
  have n8 := hP.1.1
  have n160 := hP.1.2.1
  intro m
  induction m with
  | zero => intro j yt yb _ _ h; omega
  | succ m ih =>
    intro j yt yb hj hf hm ht hb hpost
    by_cases e : j = i
    · subst e
      exact br_t (nI_le (Nat.le_refl j) (by omega)) (hpost yt yb ht hb)
    · have hjn : j < nt := by omega
      have hA := sm_PA hP hjn
      obtain ⟨b1, b2, b3, b4, b5, b6⟩ := sm_PB hP hjn
      have hC := sm_PC hP hjn
      have ho := how j hf (by omega)
      obtain ⟨a1, a2, a3, a4, a5, a6, a7⟩ := hA
      have hvp : vp_in (nI j) 160 := vp_in_nI (by omega) (by decide)
      have hmk : mk p < 256 := Nat.lt_of_lt_of_le (sm_PQ hP hp).2.2.2.1 (sm_p8 (sm_PQ hP hp).2.2.1)
      have hk8 := sm_PH hP (show j ≤ nt by omega)
      have h3 : tk j % 100 = 3 → tk j / 100 < 8 := fun z => by
        have := a5 (Or.inl z)
        rw [ho] at this
        have := (sm_PQ hP hp).2.2.1
        omega
      refine br_f (nI_ge (by omega) (by omega)) ?_
      rw [nI_clamp (show j < 2 ^ 31 by omega), sm_nap]
      refine And.intro hvp (And.intro sm_100 (nm_r (sm_rm (by omega)) (And.intro hvp (sm_ypop a3 (fun z => by have := a6 z; omega) (And.intro hvp (sm_yps a3 (by omega) hmk (fun z => by have := a6 z; omega) h3 (fun o13 => ?_) (fun o13 => ?_)))))))
      · refine nm_r (pk_sub b1) (br_f (sm_bl _) ?_)
        have hps : sm_ps (tk j) = 1 := if_pos o13
        have hr : hh (j + 1) = hh j - sm_pop pm (tk j) + 1 := by rw [b4, sm_h2, hps]
        rw [nI_clamp (show hh j - sm_pop pm (tk j) < 2 ^ 31 by omega)]
        refine And.intro (vp_in_nI (by omega) (by decide)) (nm_e (nm_r (nI_1 _) (sm_yw95 ⟨a1, a2, a3, a4, a5, a6, a7⟩ hC (sm_PP hP (show j ≤ nt by omega)).1 hb (fun yb' hb' => ?_))))
        rw [← hr]
        refine ih (j + 1) _ yb' (by omega) (by omega) (by omega) (fun q hq => ?_) hb' hpost
        rw [b6, sm_k2t, ho]
        by_cases eq : q = hh j - sm_pop pm (tk j)
        · rw [eq, pk_us, if_neg (by omega), decide_eq_true o13, decide_eq_true rfl, Bool.true_and, Bool.true_and]
        · rw [pk_un eq, if_pos (by omega)]
          exact ht q (by omega)
      · refine nm_r (pk_sub b1) (br_t (by decide) ?_)
        have hps : sm_ps (tk j) = 0 := if_neg (by omega)
        have hr : hh (j + 1) = hh j - sm_pop pm (tk j) := by rw [b4, sm_h2, hps]; omega
        refine sm_yw95 ⟨a1, a2, a3, a4, a5, a6, a7⟩ hC (sm_PP hP (show j ≤ nt by omega)).1 hb (fun yb' hb' => ?_)
        rw [← hr]
        refine ih (j + 1) _ yb' (by omega) (by omega) (by omega) (fun q hq => ?_) hb' hpost
        rw [b6, sm_k2t, if_pos (by omega)]
        exact ht q (by omega)
theorem sm_ywalk (hP : sm_PG opn' np nt pm vs mk gl fi tk xo xj ow hh kk dp pt hd) {p i : Nat} (hp : p < np) (hi : i ≤ nt) (hfi : fi p ≤ i) (how : ∀ k, fi p ≤ k → k < i → ow k = p)
    (hpost : ∀ yt' yb', sm_tt hh kk i yt' → sm_bk tk dp pt i yb' → post (nI cp, nI lm, sta, nI np, opn, nI nt, nI (hh i), nI (dp i), nI fr, nI bo, col, nI oc, res, sm_n tk, sm_n fi, sm_n pm, sm_n vs, sm_n mk, sm_k gl, yt', yb', ys, yr, sm_n fp, sm_n fa, sm_n fh, lo, st, he, nu, lf, rg, ou)) : wpY_walk post (nI cp, nI lm, sta, nI np, opn, nI nt, yh, yd, nI fr, nI bo, col, nI oc, res, sm_n tk, sm_n fi, sm_n pm, sm_n vs, sm_n mk, sm_k gl, yt, yb, ys, yr, sm_n fp, sm_n fa, sm_n fh, lo, st, he, nu, lf, rg, ou) (nI p) (nI i) := by
  have n8 := hP.1.1
  obtain ⟨q1, q2, q3, q4, q5, q6, q7, q8, _⟩ := sm_PQ hP hp
  refine And.intro (vp_in_nI (by omega) (by decide)) (nm_r (show sm_n fi (nI p).toNatClampNeg = nI (fi p) by rw [nI_clamp (by omega), sm_nap]) ⟨i - fi p + 1, ?_⟩)
  have := sm_yw17 (post := post) hP hp hi how (i - fi p + 1) (fi p) yt yb hfi (Nat.le_refl _) (by omega) (fun q hq => by rw [q7] at hq; omega) (fun l hl => by rw [q6] at hl; omega) hpost
  rw [q6, q7] at this
  exact this
end
end
section
/-! both checks of one token -/
section
variable {xle xpe sta opn xch xck xbc xcb xcc col res yh yd : Int32} {cp lm np nt fr sb us bo oc : Nat} {pm vs mk fi tk xo xj ow xh xk xl fp fa fh cb : Nat → Nat} {gl : Nat → Bool} {xbk xbp xbh sl cn cl cr fw ou yt yb ys yr lo st he nu lf rg : Nat → Int32} {hh kk dp : Nat → Nat} {pt hd : Nat → Nat → Nat}
variable {t : Nat}
def sm_C1 (t : Nat) : Prop := 1 ≤ t % 100 ∧ t % 100 ≤ 25 ∧ t / 100 ≤ 9999 ∧ (t / 100 = 0 ∨ t % 100 = 1 ∨ t % 100 = 3 ∨ t % 100 = 13 ∨ t % 100 = 14)
def sm_C2 (opn : Int32) (np nt : Nat) (vs : Nat → Nat) (t : Nat) : Prop := opn ≠ 0 ∧ nt < 160 ∧ (t % 100 = 3 ∨ t % 100 = 14 → t / 100 < vs (np - 1)) ∧ (t % 100 = 13 → t / 100 < np)
theorem sm_xcA {post : Int32 → Prop} (ht : t < 2 ^ 31) (hk : sm_C1 t → wX_check_64 post (nI (t % 100)) (nI (t / 100)) xle xpe (nI cp) (nI lm) sta (nI np) opn (nI nt) xch xck xbc (nI fr) (nI sb) (nI us) xcb xcc col (nI bo) (nI oc) res (sm_n pm) (sm_n vs) (sm_n mk) (sm_k gl) (sm_n fi) (sm_n tk) (sm_n xo) (sm_n (sm_ar tk)) (sm_n xj) (sm_n ow) (sm_n xh) (sm_n xk) (sm_n xl) xbk xbp xbh (sm_n fp) (sm_n fa) sl cn cl cr (sm_n cb) fw ou) (h1 : ¬ sm_C1 t → post 1) : wpX_check post (xle, xpe, nI cp, nI lm, sta, nI np, opn, nI nt, xch, xck, xbc, nI fr, nI sb, nI us, xcb, xcc, col, nI bo, nI oc, res, sm_n pm, sm_n vs, sm_n mk, sm_k gl, sm_n fi, sm_n tk, sm_n xo, sm_n (sm_ar tk), sm_n xj, sm_n ow, sm_n xh, sm_n xk, sm_n xl, xbk, xbp, xbh, sm_n fp, sm_n fa, sl, cn, cl, cr, sm_n cb, fw, ou) (nI t) := by
  unfold sm_C1 at hk h1
  refine br_t (nI_pos' ht) (And.intro sm_100 (nm_r (sm_rm ht) (And.intro sm_100 (nm_r (sm_dv ht) ?_))))
  refine pk_lt (t % 100) 1 (fun h => h1 (by omega)) (fun a1 => pk_lt 25 (t % 100) (fun h => h1 (by omega)) (fun a2 => pk_le (t / 100) 9999 (fun a3 => ?_) (fun h => h1 (by omega))))
  refine pk_eq (t / 100) 0 (fun e => hk (by omega)) (fun e => pk_eq (t % 100) 1 (fun e => hk (by omega)) (fun e1 => pk_eq (t % 100) 3 (fun e => hk (by omega)) (fun e3 => pk_eq (t % 100) 13 (fun e => hk (by omega)) (fun e13 => pk_eq (t % 100) 14 (fun e => hk (by omega)) (fun e14 => h1 (by omega))))))
theorem sm_ycA {post : Int32 → SY → Prop} (ht : t < 2 ^ 31) (hk : sm_C1 t → wY_refusal_62 post (nI t) (nI (t % 100)) (nI (t / 100)) (nI cp) (nI lm) sta (nI np) opn (nI nt) yh yd (nI fr) (nI bo) col (nI oc) res (sm_n tk) (sm_n fi) (sm_n pm) (sm_n vs) (sm_n mk) (sm_k gl) yt yb ys yr (sm_n fp) (sm_n fa) (sm_n fh) lo st he nu lf rg ou) (h1 : ¬ sm_C1 t → post 1 (nI cp, nI lm, sta, nI np, opn, nI nt, yh, yd, nI fr, nI bo, col, nI oc, res, sm_n tk, sm_n fi, sm_n pm, sm_n vs, sm_n mk, sm_k gl, yt, yb, ys, yr, sm_n fp, sm_n fa, sm_n fh, lo, st, he, nu, lf, rg, ou)) : wpY_refusal post (nI cp, nI lm, sta, nI np, opn, nI nt, yh, yd, nI fr, nI bo, col, nI oc, res, sm_n tk, sm_n fi, sm_n pm, sm_n vs, sm_n mk, sm_k gl, yt, yb, ys, yr, sm_n fp, sm_n fa, sm_n fh, lo, st, he, nu, lf, rg, ou) (nI t) := by
  unfold sm_C1 at hk h1
  refine And.intro sm_100 (nm_r (sm_rm ht) (And.intro sm_100 (nm_r (sm_dv ht) (br_f (nI_pos ht) ?_))))
  refine pk_lt (t % 100) 1 (fun h => h1 (by omega)) (fun a1 => pk_lt 25 (t % 100) (fun h => h1 (by omega)) (fun a2 => pk_le (t / 100) 9999 (fun a3 => ?_) (fun h => h1 (by omega))))
  refine pk_eq (t / 100) 0 (fun e => hk (by omega)) (fun e => pk_eq (t % 100) 1 (fun e => hk (by omega)) (fun e1 => pk_eq (t % 100) 3 (fun e => hk (by omega)) (fun e3 => pk_eq (t % 100) 13 (fun e => hk (by omega)) (fun e13 => pk_eq (t % 100) 14 (fun e => hk (by omega)) (fun e14 => h1 (by omega))))))
theorem sm_xneg {post : Int32 → Prop} {x : Int32} (hx : x < 0) (h1 : post 1) : wpX_check post (xle, xpe, nI cp, nI lm, sta, nI np, opn, nI nt, xch, xck, xbc, nI fr, nI sb, nI us, xcb, xcc, col, nI bo, nI oc, res, sm_n pm, sm_n vs, sm_n mk, sm_k gl, sm_n fi, sm_n tk, sm_n xo, sm_n (sm_ar tk), sm_n xj, sm_n ow, sm_n xh, sm_n xk, sm_n xl, xbk, xbp, xbh, sm_n fp, sm_n fa, sl, cn, cl, cr, sm_n cb, fw, ou) x := br_f (fun z => absurd hx (Int32.not_lt.mpr z)) h1
theorem sm_yneg {post : Int32 → SY → Prop} {x : Int32} (hx : x < 0) (h1 : post 1 (nI cp, nI lm, sta, nI np, opn, nI nt, yh, yd, nI fr, nI bo, col, nI oc, res, sm_n tk, sm_n fi, sm_n pm, sm_n vs, sm_n mk, sm_k gl, yt, yb, ys, yr, sm_n fp, sm_n fa, sm_n fh, lo, st, he, nu, lf, rg, ou)) : wpY_refusal post (nI cp, nI lm, sta, nI np, opn, nI nt, yh, yd, nI fr, nI bo, col, nI oc, res, sm_n tk, sm_n fi, sm_n pm, sm_n vs, sm_n mk, sm_k gl, yt, yb, ys, yr, sm_n fp, sm_n fa, sm_n fh, lo, st, he, nu, lf, rg, ou) x := And.intro sm_100 (nm_e (And.intro sm_100 (nm_e (br_t hx h1))))
/-- names -/
theorem sm_xc96 {post : Int32 → Prop} (n1 : 1 ≤ np) (hn : np ≤ 8) (hv : vs (np - 1) ≤ 8) (hx : t / 100 ≤ 9999) (hk : t / 100 < vs (np - 1) → wX_check_113 post (nI (t % 100)) (nI (t / 100)) xle xpe (nI cp) (nI lm) sta (nI np) opn (nI nt) xch xck xbc (nI fr) (nI sb) (nI us) xcb xcc col (nI bo) (nI oc) res (sm_n pm) (sm_n vs) (sm_n mk) (sm_k gl) (sm_n fi) (sm_n tk) (sm_n xo) (sm_n (sm_ar tk)) (sm_n xj) (sm_n ow) (sm_n xh) (sm_n xk) (sm_n xl) xbk xbp xbh (sm_n fp) (sm_n fa) sl cn cl cr (sm_n cb) fw ou) (h4 : ¬ t / 100 < vs (np - 1) → post 4) : wX_check_96 post (nI (t % 100)) (nI (t / 100)) xle xpe (nI cp) (nI lm) sta (nI np) opn (nI nt) xch xck xbc (nI fr) (nI sb) (nI us) xcb xcc col (nI bo) (nI oc) res (sm_n pm) (sm_n vs) (sm_n mk) (sm_k gl) (sm_n fi) (sm_n tk) (sm_n xo) (sm_n (sm_ar tk)) (sm_n xj) (sm_n ow) (sm_n xh) (sm_n xk) (sm_n xl) xbk xbp xbh (sm_n fp) (sm_n fa) sl cn cl cr (sm_n cb) fw ou := by
  rw [wX_check_96, sm_sb1 n1, nI_clamp (show np - 1 < 2 ^ 31 by omega), sm_nap]
  exact ⟨vp_in_nI (by omega) (by decide), pk_lt (t / 100) (vs (np - 1)) hk (fun h => h4 (by omega))⟩
theorem sm_yc102 {post : Int32 → SY → Prop} (n1 : 1 ≤ np) (hn : np ≤ 8) (hv : vs (np - 1) ≤ 8) (hx : t / 100 ≤ 9999) (hk : t / 100 < vs (np - 1) → wY_refusal_115 post (nI t) (nI (t % 100)) (nI (t / 100)) (nI (np - 1)) (nI cp) (nI lm) sta (nI np) opn (nI nt) yh yd (nI fr) (nI bo) col (nI oc) res (sm_n tk) (sm_n fi) (sm_n pm) (sm_n vs) (sm_n mk) (sm_k gl) yt yb ys yr (sm_n fp) (sm_n fa) (sm_n fh) lo st he nu lf rg ou) (h4 : ¬ t / 100 < vs (np - 1) → post 4 (nI cp, nI lm, sta, nI np, opn, nI nt, yh, yd, nI fr, nI bo, col, nI oc, res, sm_n tk, sm_n fi, sm_n pm, sm_n vs, sm_n mk, sm_k gl, yt, yb, ys, yr, sm_n fp, sm_n fa, sm_n fh, lo, st, he, nu, lf, rg, ou)) : wY_refusal_102 post (nI t) (nI (t % 100)) (nI (t / 100)) (nI (np - 1)) (nI cp) (nI lm) sta (nI np) opn (nI nt) yh yd (nI fr) (nI bo) col (nI oc) res (sm_n tk) (sm_n fi) (sm_n pm) (sm_n vs) (sm_n mk) (sm_k gl) yt yb ys yr (sm_n fp) (sm_n fa) (sm_n fh) lo st he nu lf rg ou := by
  rw [wY_refusal_102, nI_clamp (show np - 1 < 2 ^ 31 by omega), sm_nap]
  exact ⟨vp_in_nI (by omega) (by decide), pk_lt (t / 100) (vs (np - 1)) hk (fun h => h4 (by omega))⟩
theorem sm_xc113 {post : Int32 → Prop} (hn : np ≤ 8) (hx : t / 100 ≤ 9999) (hk : (t % 100 = 13 → t / 100 < np) → wpX_checkStack post (xle, xpe, nI cp, nI lm, sta, nI np, opn, nI nt, xch, xck, xbc, nI fr, nI sb, nI us, xcb, xcc, col, nI bo, nI oc, res, sm_n pm, sm_n vs, sm_n mk, sm_k gl, sm_n fi, sm_n tk, sm_n xo, sm_n (sm_ar tk), sm_n xj, sm_n ow, sm_n xh, sm_n xk, sm_n xl, xbk, xbp, xbh, sm_n fp, sm_n fa, sl, cn, cl, cr, sm_n cb, fw, ou) (nI (t % 100)) (nI (t / 100))) (h4 : ¬ (t % 100 = 13 → t / 100 < np) → post 4) : wX_check_113 post (nI (t % 100)) (nI (t / 100)) xle xpe (nI cp) (nI lm) sta (nI np) opn (nI nt) xch xck xbc (nI fr) (nI sb) (nI us) xcb xcc col (nI bo) (nI oc) res (sm_n pm) (sm_n vs) (sm_n mk) (sm_k gl) (sm_n fi) (sm_n tk) (sm_n xo) (sm_n (sm_ar tk)) (sm_n xj) (sm_n ow) (sm_n xh) (sm_n xk) (sm_n xl) xbk xbp xbh (sm_n fp) (sm_n fa) sl cn cl cr (sm_n cb) fw ou :=
  pk_eq (t % 100) 13 (fun e => pk_lt (t / 100) np (fun z => hk (fun _ => z)) (fun z => h4 (fun y => absurd (y e) (by omega)))) (fun e => hk (fun z => absurd z e))
theorem sm_yc115 {post : Int32 → SY → Prop} (hn : np ≤ 8) (hx : t / 100 ≤ 9999) (hk : (t % 100 = 13 → t / 100 < np) → wY_refusal_131 post (nI t) (nI (t % 100)) (nI (np - 1)) (nI cp) (nI lm) sta (nI np) opn (nI nt) yh yd (nI fr) (nI bo) col (nI oc) res (sm_n tk) (sm_n fi) (sm_n pm) (sm_n vs) (sm_n mk) (sm_k gl) yt yb ys yr (sm_n fp) (sm_n fa) (sm_n fh) lo st he nu lf rg ou) (h4 : ¬ (t % 100 = 13 → t / 100 < np) → post 4 (nI cp, nI lm, sta, nI np, opn, nI nt, yh, yd, nI fr, nI bo, col, nI oc, res, sm_n tk, sm_n fi, sm_n pm, sm_n vs, sm_n mk, sm_k gl, yt, yb, ys, yr, sm_n fp, sm_n fa, sm_n fh, lo, st, he, nu, lf, rg, ou)) : wY_refusal_115 post (nI t) (nI (t % 100)) (nI (t / 100)) (nI (np - 1)) (nI cp) (nI lm) sta (nI np) opn (nI nt) yh yd (nI fr) (nI bo) col (nI oc) res (sm_n tk) (sm_n fi) (sm_n pm) (sm_n vs) (sm_n mk) (sm_k gl) yt yb ys yr (sm_n fp) (sm_n fa) (sm_n fh) lo st he nu lf rg ou :=
  pk_eq (t % 100) 13 (fun e => pk_lt (t / 100) np (fun z => hk (fun _ => z)) (fun z => h4 (fun y => absurd (y e) (by omega)))) (fun e => hk (fun z => absurd z e))
/-- checks 2 to 4: one answer, or both go on -/
theorem sm_cB (n1 : opn ≠ 0 → 1 ≤ np) (hn : np ≤ 8) (hnt : nt ≤ 160) (hv : opn ≠ 0 → vs (np - 1) ≤ 8) (hx : t / 100 ≤ 9999) :
    (∃ r, 2 ≤ r ∧ r ≤ 4 ∧ (∀ post : Int32 → Prop, post (nI r) → wX_check_64 post (nI (t % 100)) (nI (t / 100)) xle xpe (nI cp) (nI lm) sta (nI np) opn (nI nt) xch xck xbc (nI fr) (nI sb) (nI us) xcb xcc col (nI bo) (nI oc) res (sm_n pm) (sm_n vs) (sm_n mk) (sm_k gl) (sm_n fi) (sm_n tk) (sm_n xo) (sm_n (sm_ar tk)) (sm_n xj) (sm_n ow) (sm_n xh) (sm_n xk) (sm_n xl) xbk xbp xbh (sm_n fp) (sm_n fa) sl cn cl cr (sm_n cb) fw ou) ∧ ∀ (post : Int32 → SY → Prop) (yh yd : Int32) (yt yb : Nat → Int32), post (nI r) (nI cp, nI lm, sta, nI np, opn, nI nt, yh, yd, nI fr, nI bo, col, nI oc, res, sm_n tk, sm_n fi, sm_n pm, sm_n vs, sm_n mk, sm_k gl, yt, yb, ys, yr, sm_n fp, sm_n fa, sm_n fh, lo, st, he, nu, lf, rg, ou) → wY_refusal_62 post (nI t) (nI (t % 100)) (nI (t / 100)) (nI cp) (nI lm) sta (nI np) opn (nI nt) yh yd (nI fr) (nI bo) col (nI oc) res (sm_n tk) (sm_n fi) (sm_n pm) (sm_n vs) (sm_n mk) (sm_k gl) yt yb ys yr (sm_n fp) (sm_n fa) (sm_n fh) lo st he nu lf rg ou) ∨
    (sm_C2 opn np nt vs t ∧ (∀ post : Int32 → Prop, wpX_checkStack post (xle, xpe, nI cp, nI lm, sta, nI np, opn, nI nt, xch, xck, xbc, nI fr, nI sb, nI us, xcb, xcc, col, nI bo, nI oc, res, sm_n pm, sm_n vs, sm_n mk, sm_k gl, sm_n fi, sm_n tk, sm_n xo, sm_n (sm_ar tk), sm_n xj, sm_n ow, sm_n xh, sm_n xk, sm_n xl, xbk, xbp, xbh, sm_n fp, sm_n fa, sl, cn, cl, cr, sm_n cb, fw, ou) (nI (t % 100)) (nI (t / 100)) → wX_check_64 post (nI (t % 100)) (nI (t / 100)) xle xpe (nI cp) (nI lm) sta (nI np) opn (nI nt) xch xck xbc (nI fr) (nI sb) (nI us) xcb xcc col (nI bo) (nI oc) res (sm_n pm) (sm_n vs) (sm_n mk) (sm_k gl) (sm_n fi) (sm_n tk) (sm_n xo) (sm_n (sm_ar tk)) (sm_n xj) (sm_n ow) (sm_n xh) (sm_n xk) (sm_n xl) xbk xbp xbh (sm_n fp) (sm_n fa) sl cn cl cr (sm_n cb) fw ou) ∧ ∀ (post : Int32 → SY → Prop) (yh yd : Int32) (yt yb : Nat → Int32), wY_refusal_131 post (nI t) (nI (t % 100)) (nI (np - 1)) (nI cp) (nI lm) sta (nI np) opn (nI nt) yh yd (nI fr) (nI bo) col (nI oc) res (sm_n tk) (sm_n fi) (sm_n pm) (sm_n vs) (sm_n mk) (sm_k gl) yt yb ys yr (sm_n fp) (sm_n fa) (sm_n fh) lo st he nu lf rg ou → wY_refusal_62 post (nI t) (nI (t % 100)) (nI (t / 100)) (nI cp) (nI lm) sta (nI np) opn (nI nt) yh yd (nI fr) (nI bo) col (nI oc) res (sm_n tk) (sm_n fi) (sm_n pm) (sm_n vs) (sm_n mk) (sm_k gl) yt yb ys yr (sm_n fp) (sm_n fa) (sm_n fh) lo st he nu lf rg ou) := by
  by_cases c1 : opn = 0
  · exact Or.inl ⟨2, by omega, by omega, fun post h => br_t c1 h, fun post yh yd yt yb h => br_t c1 h⟩
  have n1 := n1 c1
  have hv := hv c1
  by_cases c2 : nt = 160
  · exact Or.inl ⟨3, by omega, by omega, fun post h => br_f c1 (pk_lt nt 160 (fun z => absurd z (by omega)) (fun _ => h)), fun post yh yd yt yb h => br_f c1 (pk_eq nt 160 (fun _ => h) (fun z => absurd c2 z))⟩
  by_cases c3 : t % 100 = 3 ∨ t % 100 = 14
  · have c13 : t % 100 = 13 → t / 100 < np := fun z => by omega
    have X : ∀ post : Int32 → Prop, wX_check_96 post (nI (t % 100)) (nI (t / 100)) xle xpe (nI cp) (nI lm) sta (nI np) opn (nI nt) xch xck xbc (nI fr) (nI sb) (nI us) xcb xcc col (nI bo) (nI oc) res (sm_n pm) (sm_n vs) (sm_n mk) (sm_k gl) (sm_n fi) (sm_n tk) (sm_n xo) (sm_n (sm_ar tk)) (sm_n xj) (sm_n ow) (sm_n xh) (sm_n xk) (sm_n xl) xbk xbp xbh (sm_n fp) (sm_n fa) sl cn cl cr (sm_n cb) fw ou → wX_check_64 post (nI (t % 100)) (nI (t / 100)) xle xpe (nI cp) (nI lm) sta (nI np) opn (nI nt) xch xck xbc (nI fr) (nI sb) (nI us) xcb xcc col (nI bo) (nI oc) res (sm_n pm) (sm_n vs) (sm_n mk) (sm_k gl) (sm_n fi) (sm_n tk) (sm_n xo) (sm_n (sm_ar tk)) (sm_n xj) (sm_n ow) (sm_n xh) (sm_n xk) (sm_n xl) xbk xbp xbh (sm_n fp) (sm_n fa) sl cn cl cr (sm_n cb) fw ou := fun post h =>
      br_f c1 (pk_lt nt 160 (fun _ => pk_eq (t % 100) 3 (fun _ => h) (fun e3 => pk_eq (t % 100) 14 (fun _ => h) (fun e14 => absurd c3 (by omega)))) (fun z => absurd z (by omega)))
    have Y : ∀ (post : Int32 → SY → Prop) (yh yd : Int32) (yt yb : Nat → Int32), wY_refusal_102 post (nI t) (nI (t % 100)) (nI (t / 100)) (nI (np - 1)) (nI cp) (nI lm) sta (nI np) opn (nI nt) yh yd (nI fr) (nI bo) col (nI oc) res (sm_n tk) (sm_n fi) (sm_n pm) (sm_n vs) (sm_n mk) (sm_k gl) yt yb ys yr (sm_n fp) (sm_n fa) (sm_n fh) lo st he nu lf rg ou → wY_refusal_62 post (nI t) (nI (t % 100)) (nI (t / 100)) (nI cp) (nI lm) sta (nI np) opn (nI nt) yh yd (nI fr) (nI bo) col (nI oc) res (sm_n tk) (sm_n fi) (sm_n pm) (sm_n vs) (sm_n mk) (sm_k gl) yt yb ys yr (sm_n fp) (sm_n fa) (sm_n fh) lo st he nu lf rg ou := fun post _ _ _ _ h =>
      br_f c1 (pk_eq nt 160 (fun z => absurd z c2) (fun _ => nm_r (sm_sb1 n1) (pk_eq (t % 100) 3 (fun _ => h) (fun e3 => pk_eq (t % 100) 14 (fun _ => h) (fun e14 => absurd c3 (by omega))))))
    by_cases c4 : t / 100 < vs (np - 1)
    · exact Or.inr ⟨⟨c1, by omega, fun _ => c4, c13⟩, fun post h => X post (sm_xc96 n1 hn hv hx (fun _ => sm_xc113 hn hx (fun _ => h) (fun z => absurd c13 z)) (fun z => absurd c4 z)), fun post yh yd yt yb h => Y post yh yd yt yb (sm_yc102 n1 hn hv hx (fun _ => sm_yc115 hn hx (fun _ => h) (fun z => absurd c13 z)) (fun z => absurd c4 z))⟩
    · exact Or.inl ⟨4, by omega, by omega, fun post h => X post (sm_xc96 n1 hn hv hx (fun z => absurd z c4) (fun _ => h)), fun post yh yd yt yb h => Y post yh yd yt yb (sm_yc102 n1 hn hv hx (fun z => absurd z c4) (fun _ => h))⟩
  · have X : ∀ post : Int32 → Prop, wX_check_113 post (nI (t % 100)) (nI (t / 100)) xle xpe (nI cp) (nI lm) sta (nI np) opn (nI nt) xch xck xbc (nI fr) (nI sb) (nI us) xcb xcc col (nI bo) (nI oc) res (sm_n pm) (sm_n vs) (sm_n mk) (sm_k gl) (sm_n fi) (sm_n tk) (sm_n xo) (sm_n (sm_ar tk)) (sm_n xj) (sm_n ow) (sm_n xh) (sm_n xk) (sm_n xl) xbk xbp xbh (sm_n fp) (sm_n fa) sl cn cl cr (sm_n cb) fw ou → wX_check_64 post (nI (t % 100)) (nI (t / 100)) xle xpe (nI cp) (nI lm) sta (nI np) opn (nI nt) xch xck xbc (nI fr) (nI sb) (nI us) xcb xcc col (nI bo) (nI oc) res (sm_n pm) (sm_n vs) (sm_n mk) (sm_k gl) (sm_n fi) (sm_n tk) (sm_n xo) (sm_n (sm_ar tk)) (sm_n xj) (sm_n ow) (sm_n xh) (sm_n xk) (sm_n xl) xbk xbp xbh (sm_n fp) (sm_n fa) sl cn cl cr (sm_n cb) fw ou := fun post h =>
      br_f c1 (pk_lt nt 160 (fun _ => pk_eq (t % 100) 3 (fun z => absurd (Or.inl z) c3) (fun e3 => pk_eq (t % 100) 14 (fun z => absurd (Or.inr z) c3) (fun e14 => h))) (fun z => absurd z (by omega)))
    have Y : ∀ (post : Int32 → SY → Prop) (yh yd : Int32) (yt yb : Nat → Int32), wY_refusal_115 post (nI t) (nI (t % 100)) (nI (t / 100)) (nI (np - 1)) (nI cp) (nI lm) sta (nI np) opn (nI nt) yh yd (nI fr) (nI bo) col (nI oc) res (sm_n tk) (sm_n fi) (sm_n pm) (sm_n vs) (sm_n mk) (sm_k gl) yt yb ys yr (sm_n fp) (sm_n fa) (sm_n fh) lo st he nu lf rg ou → wY_refusal_62 post (nI t) (nI (t % 100)) (nI (t / 100)) (nI cp) (nI lm) sta (nI np) opn (nI nt) yh yd (nI fr) (nI bo) col (nI oc) res (sm_n tk) (sm_n fi) (sm_n pm) (sm_n vs) (sm_n mk) (sm_k gl) yt yb ys yr (sm_n fp) (sm_n fa) (sm_n fh) lo st he nu lf rg ou := fun post _ _ _ _ h =>
      br_f c1 (pk_eq nt 160 (fun z => absurd z c2) (fun _ => nm_r (sm_sb1 n1) (pk_eq (t % 100) 3 (fun z => absurd (Or.inl z) c3) (fun e3 => pk_eq (t % 100) 14 (fun z => absurd (Or.inr z) c3) (fun e14 => h)))))
    by_cases c4 : t % 100 = 13 → t / 100 < np
    · exact Or.inr ⟨⟨c1, by omega, fun z => absurd z c3, c4⟩, fun post h => X post (sm_xc113 hn hx (fun _ => h) (fun z => absurd c4 z)), fun post yh yd yt yb h => Y post yh yd yt yb (sm_yc115 hn hx (fun _ => h) (fun z => absurd c4 z))⟩
    · exact Or.inl ⟨4, by omega, by omega, fun post h => X post (sm_xc113 hn hx (fun z => absurd z c4) (fun _ => h)), fun post yh yd yt yb h => Y post yh yd yt yb (sm_yc115 hn hx (fun z => absurd z c4) (fun _ => h))⟩
/-- the blocks allow the op -/
def sm_BO (d kd o : Nat) : Prop := (o = 20 ∨ o = 22 → d < 6) ∧ (o = 21 → kd = 20) ∧ (o = 23 → kd = 22) ∧ (o = 24 → kd ≠ 22)
theorem sm_x22 {post : Int32 → Prop} {d kd o : Nat} (hd6 : d ≤ 6) (hkd : kd < 100) (ho : o < 100) (h1 : sm_BO d kd o → post 1) (h0 : ¬ sm_BO d kd o → post 0) : wX_blockFits_22 post (nI o) (nI kd) xle xpe (nI cp) (nI lm) sta (nI np) opn (nI nt) xch xck (nI d) (nI fr) (nI sb) (nI us) xcb xcc col (nI bo) (nI oc) res (sm_n pm) (sm_n vs) (sm_n mk) (sm_k gl) (sm_n fi) (sm_n tk) (sm_n xo) (sm_n (sm_ar tk)) (sm_n xj) (sm_n ow) (sm_n xh) (sm_n xk) (sm_n xl) xbk xbp xbh (sm_n fp) (sm_n fa) sl cn cl cr (sm_n cb) fw ou := by
  unfold sm_BO at h1 h0
  have k60 : o = 20 ∨ o = 22 → wX_blockFits_60 post xle xpe (nI cp) (nI lm) sta (nI np) opn (nI nt) xch xck (nI d) (nI fr) (nI sb) (nI us) xcb xcc col (nI bo) (nI oc) res (sm_n pm) (sm_n vs) (sm_n mk) (sm_k gl) (sm_n fi) (sm_n tk) (sm_n xo) (sm_n (sm_ar tk)) (sm_n xj) (sm_n ow) (sm_n xh) (sm_n xk) (sm_n xl) xbk xbp xbh (sm_n fp) (sm_n fa) sl cn cl cr (sm_n cb) fw ou := fun e => pk_le 6 d (fun z => h0 (by omega)) (fun z => h1 (by omega))
  exact pk_lt o 20 (fun z => h1 (by omega)) (fun a1 => pk_lt 24 o (fun z => h1 (by omega)) (fun a2 =>
    pk_eq o 20 (fun e => k60 (Or.inl e)) (fun e20 => pk_eq o 21 (fun e => pk_eq kd 20 (fun z => h1 (by omega)) (fun z => h0 (by omega))) (fun e21 =>
    pk_eq o 22 (fun e => k60 (Or.inr e)) (fun e22 => pk_eq o 23 (fun e => pk_eq kd 22 (fun z => h1 (by omega)) (fun z => h0 (by omega))) (fun e23 =>
    pk_eq o 24 (fun e => pk_eq kd 22 (fun z => h0 (by omega)) (fun z => h1 (by omega))) (fun _ => trivial)))))))
theorem sm_xbf {post : Int32 → Prop} {d kd o : Nat} (hd6 : d ≤ 6) (hkd : kd < 100) (ho : o < 100) (z0 : d = 0 → kd = 0) (zk : 0 < d → xbk (d - 1) = nI kd) (h1 : sm_BO d kd o → post 1) (h0 : ¬ sm_BO d kd o → post 0) : wpX_blockFits post (xle, xpe, nI cp, nI lm, sta, nI np, opn, nI nt, xch, xck, nI d, nI fr, nI sb, nI us, xcb, xcc, col, nI bo, nI oc, res, sm_n pm, sm_n vs, sm_n mk, sm_k gl, sm_n fi, sm_n tk, sm_n xo, sm_n (sm_ar tk), sm_n xj, sm_n ow, sm_n xh, sm_n xk, sm_n xl, xbk, xbp, xbh, sm_n fp, sm_n fa, sl, cn, cl, cr, sm_n cb, fw, ou) (nI o) := by
  refine pk_le d 0 (fun z => ?_) (fun z => ?_)
  · have e := z0 (by omega)
    subst e
    exact sm_x22 hd6 hkd ho h1 h0
  · rw [sm_sb1 (by omega), nI_clamp (show d - 1 < 2 ^ 31 by omega), zk z]
    exact ⟨vp_in_nI (by omega) (by decide), sm_x22 hd6 hkd ho h1 h0⟩
theorem sm_y308 {post : Int32 → SY → Prop} {d kd o : Nat} (hkd : kd < 100) (ho : o < 100) (hb : o = 20 ∨ o = 22 → d < 6) (h1 : sm_BO d kd o → post 0 (nI cp, nI lm, sta, nI np, opn, nI nt, yh, nI d, nI fr, nI bo, col, nI oc, res, sm_n tk, sm_n fi, sm_n pm, sm_n vs, sm_n mk, sm_k gl, yt, yb, ys, yr, sm_n fp, sm_n fa, sm_n fh, lo, st, he, nu, lf, rg, ou)) (h0 : ¬ sm_BO d kd o → post 8 (nI cp, nI lm, sta, nI np, opn, nI nt, yh, nI d, nI fr, nI bo, col, nI oc, res, sm_n tk, sm_n fi, sm_n pm, sm_n vs, sm_n mk, sm_k gl, yt, yb, ys, yr, sm_n fp, sm_n fa, sm_n fh, lo, st, he, nu, lf, rg, ou)) : wY_refusal_308 post (nI o) (nI kd) (nI cp) (nI lm) sta (nI np) opn (nI nt) yh (nI d) (nI fr) (nI bo) col (nI oc) res (sm_n tk) (sm_n fi) (sm_n pm) (sm_n vs) (sm_n mk) (sm_k gl) yt yb ys yr (sm_n fp) (sm_n fa) (sm_n fh) lo st he nu lf rg ou := by
  unfold sm_BO at h1 h0
  have k334 : (o = 21 → kd = 20) → (o = 23 → kd = 22) → wY_refusal_334 post (nI o) (nI kd) (nI cp) (nI lm) sta (nI np) opn (nI nt) yh (nI d) (nI fr) (nI bo) col (nI oc) res (sm_n tk) (sm_n fi) (sm_n pm) (sm_n vs) (sm_n mk) (sm_k gl) yt yb ys yr (sm_n fp) (sm_n fa) (sm_n fh) lo st he nu lf rg ou := fun p1 p2 =>
    pk_eq o 24 (fun e => pk_eq kd 22 (fun z => h0 (by omega)) (fun z => h1 (by omega))) (fun e => h1 (by omega))
  have k321 : (o = 21 → kd = 20) → wY_refusal_321 post (nI o) (nI kd) (nI cp) (nI lm) sta (nI np) opn (nI nt) yh (nI d) (nI fr) (nI bo) col (nI oc) res (sm_n tk) (sm_n fi) (sm_n pm) (sm_n vs) (sm_n mk) (sm_k gl) yt yb ys yr (sm_n fp) (sm_n fa) (sm_n fh) lo st he nu lf rg ou := fun p1 =>
    pk_eq o 23 (fun e => pk_eq kd 22 (fun z => k334 p1 (fun _ => z)) (fun z => h0 (by omega))) (fun e => k334 p1 (fun z => absurd z e))
  exact pk_eq o 21 (fun e => pk_eq kd 20 (fun z => k321 (fun _ => z)) (fun z => h0 (by omega))) (fun e => k321 (fun z => absurd z e))
theorem sm_y282 {post : Int32 → SY → Prop} {d kd o : Nat} (hd6 : d ≤ 6) (hkd : kd < 100) (ho : o < 100) (h1 : sm_BO d kd o → post 0 (nI cp, nI lm, sta, nI np, opn, nI nt, yh, nI d, nI fr, nI bo, col, nI oc, res, sm_n tk, sm_n fi, sm_n pm, sm_n vs, sm_n mk, sm_k gl, yt, yb, ys, yr, sm_n fp, sm_n fa, sm_n fh, lo, st, he, nu, lf, rg, ou)) (h0 : ¬ sm_BO d kd o → post 8 (nI cp, nI lm, sta, nI np, opn, nI nt, yh, nI d, nI fr, nI bo, col, nI oc, res, sm_n tk, sm_n fi, sm_n pm, sm_n vs, sm_n mk, sm_k gl, yt, yb, ys, yr, sm_n fp, sm_n fa, sm_n fh, lo, st, he, nu, lf, rg, ou)) : wY_refusal_282 post (nI o) (nI kd) (nI cp) (nI lm) sta (nI np) opn (nI nt) yh (nI d) (nI fr) (nI bo) col (nI oc) res (sm_n tk) (sm_n fi) (sm_n pm) (sm_n vs) (sm_n mk) (sm_k gl) yt yb ys yr (sm_n fp) (sm_n fa) (sm_n fh) lo st he nu lf rg ou := by
  have k296 : o = 20 ∨ o = 22 → wY_refusal_296 post (nI o) (nI kd) (nI cp) (nI lm) sta (nI np) opn (nI nt) yh (nI d) (nI fr) (nI bo) col (nI oc) res (sm_n tk) (sm_n fi) (sm_n pm) (sm_n vs) (sm_n mk) (sm_k gl) yt yb ys yr (sm_n fp) (sm_n fa) (sm_n fh) lo st he nu lf rg ou := fun e =>
    pk_eq d 6 (fun z => h0 (by unfold sm_BO; omega)) (fun z => sm_y308 hkd ho (fun _ => by omega) h1 h0)
  exact pk_eq o 20 (fun e => k296 (Or.inl e)) (fun e20 => pk_eq o 22 (fun e => k296 (Or.inr e)) (fun e22 => sm_y308 hkd ho (fun z => by omega) h1 h0))
theorem sm_y260 {post : Int32 → SY → Prop} {d kd o : Nat} (hd6 : d ≤ 6) (hkd : kd < 100) (ho : o < 100) (z0 : d = 0 → kd = 0) (zk : 0 < d → yb (d - 1) = nI kd) (h1 : sm_BO d kd o → post 0 (nI cp, nI lm, sta, nI np, opn, nI nt, yh, nI d, nI fr, nI bo, col, nI oc, res, sm_n tk, sm_n fi, sm_n pm, sm_n vs, sm_n mk, sm_k gl, yt, yb, ys, yr, sm_n fp, sm_n fa, sm_n fh, lo, st, he, nu, lf, rg, ou)) (h0 : ¬ sm_BO d kd o → post 8 (nI cp, nI lm, sta, nI np, opn, nI nt, yh, nI d, nI fr, nI bo, col, nI oc, res, sm_n tk, sm_n fi, sm_n pm, sm_n vs, sm_n mk, sm_k gl, yt, yb, ys, yr, sm_n fp, sm_n fa, sm_n fh, lo, st, he, nu, lf, rg, ou)) : wY_refusal_260 post (nI o) (nI cp) (nI lm) sta (nI np) opn (nI nt) yh (nI d) (nI fr) (nI bo) col (nI oc) res (sm_n tk) (sm_n fi) (sm_n pm) (sm_n vs) (sm_n mk) (sm_k gl) yt yb ys yr (sm_n fp) (sm_n fa) (sm_n fh) lo st he nu lf rg ou := by
  refine pk_le d 0 (fun z => ?_) (fun z => ?_)
  · have e := z0 (by omega)
    subst e
    exact sm_y282 hd6 hkd ho h1 h0
  · rw [sm_sb1 (by omega), nI_clamp (show d - 1 < 2 ^ 31 by omega), zk z]
    exact ⟨vp_in_nI (by omega) (by decide), sm_y282 hd6 hkd ho h1 h0⟩
end
end
section
/-! both checks: heights, types, blocks -/
section
variable {xle xpe sta opn xch xck xbc xcb xcc col res yh yd : Int32} {cp lm np nt fr sb us bo oc : Nat} {pm vs mk fi tk xo xj ow xh xk xl fp fa fh cb : Nat → Nat} {gl : Nat → Bool} {xbk xbp xbh sl cn cl cr fw ou yt yb ys yr lo st he nu lf rg : Nat → Int32} {hh kk dp : Nat → Nat} {pt hd : Nat → Nat → Nat}
variable {t : Nat}
theorem sm_wkb {p : Nat} (o1 : 1 ≤ t % 100) (o2 : t % 100 ≤ 25) : sm_wk pm mk gl p t < 2 ^ sm_pop pm t := by
  have h : t % 100 = 9 ∨ t % 100 = 10 ∨ t % 100 = 11 ∨ t % 100 = 12 ∨ t % 100 = 13 ∨ t % 100 = 14 ∨ t % 100 = 15 ∨ t % 100 = 16 ∨ t % 100 = 17 ∨ t % 100 = 25 ∨ ¬ (9 ≤ t % 100 ∧ t % 100 ≤ 17 ∨ t % 100 = 25) := by omega
  rcases h with e | e | e | e | e | e | e | e | e | e | e
  · rw [sm_wk9 e, sm_pop9 e]; decide
  · rw [sm_wk10 e, sm_pop10 e]; decide
  · rw [sm_wk11 e, sm_pop11 e]; decide
  · rw [sm_wk12 e, sm_pop12 e]; decide
  · rw [sm_wk13 e, sm_pop13 e]; exact Nat.mod_lt _ (Nat.two_pow_pos _)
  · rw [sm_wk14 e, sm_pop14 e]; exact Bool.toNat_lt _
  · rw [sm_wk15 e, sm_pop15 e]; decide
  · rw [sm_wk16 e, sm_pop16 e]; decide
  · rw [sm_wk17 e, sm_pop17 e]; decide
  · rw [sm_wk25 e, sm_pop25 e]; exact Bool.toNat_lt _
  · rw [show sm_wk pm mk gl p t = 0 from by unfold sm_wk; simp only [show ¬ t % 100 = 9 by omega, show ¬ t % 100 = 10 by omega, show ¬ t % 100 = 11 by omega, show ¬ t % 100 = 12 by omega, show ¬ t % 100 = 13 by omega, show ¬ t % 100 = 14 by omega, show ¬ t % 100 = 15 by omega, show ¬ t % 100 = 16 by omega, show ¬ t % 100 = 17 by omega, show ¬ t % 100 = 25 by omega, if_false, or_self]]
    exact Nat.two_pow_pos _
theorem sm_popb (o1 : 1 ≤ t % 100) (o2 : t % 100 ≤ 25) (h13 : t % 100 = 13 → pm (t / 100) ≤ 3) : sm_pop pm t ≤ 3 := by
  unfold sm_pop
  by_cases e : t % 100 = 13
  · have := h13 e
    rw [e]
    exact this
  · rw [if_neg e]
    repeat' split
    all_goals omega
/-- the kinds by their bits -/
theorem sm_tyb {p h k : Nat} (o1 : 1 ≤ t % 100) (o2 : t % 100 ≤ 25) (hk : k < 2 ^ h) (hh : sm_pop pm t ≤ h) (n8 : t % 100 ≠ 8) (n19 : t % 100 ≠ 19) : sm_ty pm mk gl p t h k ↔ ∀ j, j < sm_pop pm t → k.testBit (h - sm_pop pm t + j) = (sm_wk pm mk gl p t).testBit j := by
  have hw := sm_wkb (pm := pm) (mk := mk) (gl := gl) (p := p) o1 o2
  unfold sm_ty
  constructor
  · intro z j hj
    rw [← z.2 n8 n19, Nat.testBit_div_two_pow, Nat.add_comm]
  · intro z
    refine ⟨fun e => absurd e n8, fun _ _ => Nat.eq_of_testBit_eq (fun i => ?_)⟩
    rw [Nat.testBit_div_two_pow]
    by_cases hi : i < sm_pop pm t
    · rw [Nat.add_comm]; exact z i hi
    · rw [sm_tz hk (by omega), sm_tz hw (by omega)]
theorem sm_ty8 {p h k : Nat} (e8 : t % 100 = 8) (hk : k < 2 ^ h) (h2 : 2 ≤ h) : sm_ty pm mk gl p t h k ↔ k.testBit (h - 2) = k.testBit (h - 1) := by
  have hp : sm_pop pm t = 2 := sm_pop8 e8
  unfold sm_ty
  rw [hp]
  have b0 : (k / 2 ^ (h - 2)).testBit 0 = k.testBit (h - 2) := by rw [Nat.testBit_div_two_pow, Nat.zero_add]
  have b1 : (k / 2 ^ (h - 2)).testBit 1 = k.testBit (h - 1) := by rw [Nat.testBit_div_two_pow]; congr 1; omega
  have lt : k / 2 ^ (h - 2) < 4 := by
    rw [Nat.div_lt_iff_lt_mul (Nat.two_pow_pos _), show 4 = 2 ^ 2 from rfl, ← Nat.pow_add]
    rw [show 2 + (h - 2) = h by omega]
    exact hk
  rw [← b0, ← b1]
  generalize k / 2 ^ (h - 2) = z at lt
  have : z = 0 ∨ z = 1 ∨ z = 2 ∨ z = 3 := by omega
  rcases this with e | e | e | e <;> subst e <;> simp [e8, Nat.testBit]
theorem sm_x34 {post : Int32 → Prop} {h k : Nat} (ht : t < 1000000) (o1 : 1 ≤ t % 100) (o2 : t % 100 ≤ 25) (hn : np ≤ 8) (hn1 : 1 ≤ np) (h13 : t % 100 = 13 → t / 100 < np) (hpm : ∀ q, q < np → pm q ≤ 3) (hmk : ∀ q, q < np → mk q < 256) (h14 : t % 100 = 14 → t / 100 < 8)
    (h8 : h ≤ 8) (hk : k < 2 ^ h) (hle : sm_pop pm t ≤ h) (hK : sm_ty pm mk gl (np - 1) t h k → wX_checkStack_91 post (nI (t % 100)) (nI (sm_pop pm t)) xle xpe (nI cp) (nI lm) sta (nI np) opn (nI nt) (nI h) (nI k) xbc (nI fr) (nI sb) (nI us) xcb xcc col (nI bo) (nI oc) res (sm_n pm) (sm_n vs) (sm_n mk) (sm_k gl) (sm_n fi) (sm_n tk) (sm_n xo) (sm_n (sm_ar tk)) (sm_n xj) (sm_n ow) (sm_n xh) (sm_n xk) (sm_n xl) xbk xbp xbh (sm_n fp) (sm_n fa) sl cn cl cr (sm_n cb) fw ou) (h6 : ¬ sm_ty pm mk gl (np - 1) t h k → post 6) : wX_checkStack_34 post (nI (t % 100)) (nI (t / 100)) (nI (sm_pop pm t)) xle xpe (nI cp) (nI lm) sta (nI np) opn (nI nt) (nI h) (nI k) xbc (nI fr) (nI sb) (nI us) xcb xcc col (nI bo) (nI oc) res (sm_n pm) (sm_n vs) (sm_n mk) (sm_k gl) (sm_n fi) (sm_n tk) (sm_n xo) (sm_n (sm_ar tk)) (sm_n xj) (sm_n ow) (sm_n xh) (sm_n xk) (sm_n xl) xbk xbp xbh (sm_n fp) (sm_n fa) sl cn cl cr (sm_n cb) fw ou := by
  have k8 : k < 256 := Nat.lt_of_lt_of_le hk (sm_p8 h8)
  have hw := sm_wkb (pm := pm) (mk := mk) (gl := gl) (p := np - 1) o1 o2
  have hw8 : sm_wk pm mk gl (np - 1) t < 256 := Nat.lt_of_lt_of_le hw (sm_p8 (by omega))
  have hd : k / 2 ^ (h - sm_pop pm t) < 256 := Nat.lt_of_le_of_lt (Nat.div_le_self _ _) k8
  unfold sm_ty at hK h6
  rw [wX_checkStack_34, pk_sub hle, sm_shr (by omega) (by omega)]
  generalize k / 2 ^ (h - sm_pop pm t) = z at hd hK h6
  refine nm_e (pk_eq (t % 100) 8 (fun e => pk_eq z 0 (fun e0 => hK (by omega)) (fun e0 => pk_eq z 3 (fun e3 => hK (by omega)) (fun e3 => h6 (by omega)))) (fun e => pk_eq (t % 100) 19 (fun e19 => hK (by omega)) (fun e19 => ?_)))
  exact sm_xpk ht o1 o2 hn hn1 h13 hpm hmk h14 (pk_eq z (sm_wk pm mk gl (np - 1) t) (fun q => hK (by omega)) (fun q => h6 (by omega)))
theorem sm_x91 {post : Int32 → Prop} {h d kd : Nat} (h8 : h ≤ 8) (hle : sm_pop pm t ≤ h) (hd6 : d ≤ 6) (hkd : kd < 100) (z0 : d = 0 → kd = 0) (zk : 0 < d → xbk (d - 1) = nI kd)
    (hK : sm_h2 pm t h ≤ 8 → sm_BO d kd (t % 100) → post 0) (h7 : ¬ sm_h2 pm t h ≤ 8 → post 7) (h88 : sm_h2 pm t h ≤ 8 → ¬ sm_BO d kd (t % 100) → post 8) : wX_checkStack_91 post (nI (t % 100)) (nI (sm_pop pm t)) xle xpe (nI cp) (nI lm) sta (nI np) opn (nI nt) (nI h) xck (nI d) (nI fr) (nI sb) (nI us) xcb xcc col (nI bo) (nI oc) res (sm_n pm) (sm_n vs) (sm_n mk) (sm_k gl) (sm_n fi) (sm_n tk) (sm_n xo) (sm_n (sm_ar tk)) (sm_n xj) (sm_n ow) (sm_n xh) (sm_n xk) (sm_n xl) xbk xbp xbh (sm_n fp) (sm_n fa) sl cn cl cr (sm_n cb) fw ou := by
  have ho : t % 100 < 100 := Nat.mod_lt _ (by decide)
  have k102 : ∀ s, sm_ps t = s → wX_checkStack_102 post (nI (t % 100)) (nI (sm_pop pm t)) (nI s) xle xpe (nI cp) (nI lm) sta (nI np) opn (nI nt) (nI h) xck (nI d) (nI fr) (nI sb) (nI us) xcb xcc col (nI bo) (nI oc) res (sm_n pm) (sm_n vs) (sm_n mk) (sm_k gl) (sm_n fi) (sm_n tk) (sm_n xo) (sm_n (sm_ar tk)) (sm_n xj) (sm_n ow) (sm_n xh) (sm_n xk) (sm_n xl) xbk xbp xbh (sm_n fp) (sm_n fa) sl cn cl cr (sm_n cb) fw ou := by
    intro s es
    unfold sm_h2 at hK h7 h88
    rw [es] at hK h7 h88
    have s1 : s ≤ 1 := by rw [← es]; unfold sm_ps; split <;> omega
    rw [wX_checkStack_102, pk_sub hle, nI_add]
    refine pk_le (h - sm_pop pm t + s) 8 (fun z => ?_) (fun z => h7 (by omega))
    exact sm_xbf hd6 hkd ho z0 zk (fun b => br_f sm_10 (hK z b)) (fun b => br_t rfl (h88 z b))
  exact pk_lt 13 (t % 100) (fun z => k102 0 (if_neg (by omega))) (fun z => k102 1 (if_pos z))
theorem sm_xcs {post : Int32 → Prop} {h k d kd : Nat} (ht : t < 1000000) (o1 : 1 ≤ t % 100) (o2 : t % 100 ≤ 25) (hn : np ≤ 8) (hn1 : 1 ≤ np) (h13 : t % 100 = 13 → t / 100 < np) (hpm : ∀ q, q < np → pm q ≤ 3) (hmk : ∀ q, q < np → mk q < 256) (h14 : t % 100 = 14 → t / 100 < 8)
    (h8 : h ≤ 8) (hk : k < 2 ^ h) (hd6 : d ≤ 6) (hkd : kd < 100) (z0 : d = 0 → kd = 0) (zk : 0 < d → xbk (d - 1) = nI kd)
    (g5 : ¬ (sm_pop pm t ≤ h ∧ (20 ≤ t % 100 → h = sm_pop pm t)) → post 5)
    (g6 : sm_pop pm t ≤ h ∧ (20 ≤ t % 100 → h = sm_pop pm t) → ¬ sm_ty pm mk gl (np - 1) t h k → post 6)
    (g7 : sm_pop pm t ≤ h ∧ (20 ≤ t % 100 → h = sm_pop pm t) → sm_ty pm mk gl (np - 1) t h k → ¬ sm_h2 pm t h ≤ 8 → post 7)
    (g8 : sm_pop pm t ≤ h ∧ (20 ≤ t % 100 → h = sm_pop pm t) → sm_ty pm mk gl (np - 1) t h k → sm_h2 pm t h ≤ 8 → ¬ sm_BO d kd (t % 100) → post 8)
    (g0 : sm_pop pm t ≤ h ∧ (20 ≤ t % 100 → h = sm_pop pm t) → sm_ty pm mk gl (np - 1) t h k → sm_h2 pm t h ≤ 8 → sm_BO d kd (t % 100) → post 0) :
    wpX_checkStack post (xle, xpe, nI cp, nI lm, sta, nI np, opn, nI nt, nI h, nI k, nI d, nI fr, nI sb, nI us, xcb, xcc, col, nI bo, nI oc, res, sm_n pm, sm_n vs, sm_n mk, sm_k gl, sm_n fi, sm_n tk, sm_n xo, sm_n (sm_ar tk), sm_n xj, sm_n ow, sm_n xh, sm_n xk, sm_n xl, xbk, xbp, xbh, sm_n fp, sm_n fa, sl, cn, cl, cr, sm_n cb, fw, ou) (nI (t % 100)) (nI (t / 100)) := by
  have hp3 : sm_pop pm t ≤ 3 := sm_popb o1 o2 (fun e => hpm _ (h13 e))
  have k34 : sm_pop pm t ≤ h ∧ (20 ≤ t % 100 → h = sm_pop pm t) → wX_checkStack_34 post (nI (t % 100)) (nI (t / 100)) (nI (sm_pop pm t)) xle xpe (nI cp) (nI lm) sta (nI np) opn (nI nt) (nI h) (nI k) (nI d) (nI fr) (nI sb) (nI us) xcb xcc col (nI bo) (nI oc) res (sm_n pm) (sm_n vs) (sm_n mk) (sm_k gl) (sm_n fi) (sm_n tk) (sm_n xo) (sm_n (sm_ar tk)) (sm_n xj) (sm_n ow) (sm_n xh) (sm_n xk) (sm_n xl) xbk xbp xbh (sm_n fp) (sm_n fa) sl cn cl cr (sm_n cb) fw ou := fun z =>
    sm_x34 ht o1 o2 hn hn1 h13 hpm hmk h14 h8 hk z.1 (fun y => sm_x91 h8 z.1 hd6 hkd z0 zk (fun a b => g0 z y a b) (fun a => g7 z y a) (fun a b => g8 z y a b)) (fun y => g6 z y)
  unfold wpX_checkStack
  dsimp only
  refine sm_xpop ht o1 o2 hn h13 ?_
  exact (pk_lt 19 (t % 100) (fun a => pk_eq h (sm_pop pm t) (fun e => k34 ⟨by omega, fun _ => e⟩) (fun e => g5 (by omega))) (fun a => pk_le (sm_pop pm t) h (fun e => k34 ⟨e, fun z => by omega⟩) (fun e => g5 (by omega))))
/-- the reference's loop over the popped entries -/
theorem sm_y177 {post : Int32 → SY → Prop} {p h k d : Nat} (ht : t < 1000000) (o1 : 1 ≤ t % 100) (o2 : t % 100 ≤ 25) (hp8 : p < 8) (hmk : ∀ q, q < 8 → mk q < 256) (h13 : t % 100 = 13 → t / 100 < 8) (h14 : t % 100 = 14 ∨ t % 100 = 3 → t / 100 < 8)
    (h8 : h ≤ 8) (hk : k < 2 ^ h) (hle : sm_pop pm t ≤ h) (hp3 : sm_pop pm t ≤ 3) (htt : ∀ q, q < h → yt q = nI (k.testBit q).toNat)
    (g6 : ¬ sm_ty pm mk gl p t h k → post 6 (nI cp, nI lm, sta, nI np, opn, nI nt, nI h, nI d, nI fr, nI bo, col, nI oc, res, sm_n tk, sm_n fi, sm_n pm, sm_n vs, sm_n mk, sm_k gl, yt, yb, ys, yr, sm_n fp, sm_n fa, sm_n fh, lo, st, he, nu, lf, rg, ou))
    (g7 : sm_ty pm mk gl p t h k → ¬ sm_h2 pm t h ≤ 8 → post 7 (nI cp, nI lm, sta, nI np, opn, nI nt, nI h, nI d, nI fr, nI bo, col, nI oc, res, sm_n tk, sm_n fi, sm_n pm, sm_n vs, sm_n mk, sm_k gl, yt, yb, ys, yr, sm_n fp, sm_n fa, sm_n fh, lo, st, he, nu, lf, rg, ou))
    (g0 : sm_ty pm mk gl p t h k → sm_h2 pm t h ≤ 8 → wY_refusal_260 post (nI (t % 100)) (nI cp) (nI lm) sta (nI np) opn (nI nt) (nI h) (nI d) (nI fr) (nI bo) col (nI oc) res (sm_n tk) (sm_n fi) (sm_n pm) (sm_n vs) (sm_n mk) (sm_k gl) yt yb ys yr (sm_n fp) (sm_n fa) (sm_n fh) lo st he nu lf rg ou) :
    ∀ m j, j ≤ sm_pop pm t → sm_pop pm t - j < m → (t % 100 ≠ 8 → t % 100 ≠ 19 → ∀ q, q < j → k.testBit (h - sm_pop pm t + q) = (sm_wk pm mk gl p t).testBit q) → (t % 100 = 8 → 0 < j → k.testBit (h - 2) = k.testBit (h - 1)) →
    wY_refusal_177 post (nI t) (nI (t % 100)) (nI p) (nI (sm_pop pm t)) (nI cp) (nI lm) sta (nI np) opn (nI nt) (nI h) (nI d) (nI fr) (nI bo) col (nI oc) res (sm_n tk) (sm_n fi) (sm_n pm) (sm_n vs) (sm_n mk) (sm_k gl) yt yb ys yr (sm_n fp) (sm_n fa) (sm_n fh) lo st he nu lf rg ou m (nI j) := by
  intro m
  induction m with
  | zero => intro j _ h; omega
  | succ m ih =>
    intro j hj hm hb1 hb8
    refine pk_le (sm_pop pm t) j (fun e => ?_) (fun e => ?_)
    · have e : j = sm_pop pm t := by omega
      subst e
      have hty : sm_ty pm mk gl p t h k := by
        by_cases n8 : t % 100 = 8
        · have hp2 := sm_pop8 (pm := pm) n8
          exact (sm_ty8 n8 hk (by omega)).mpr (hb8 n8 (by omega))
        · by_cases n19 : t % 100 = 19
          · exact ⟨fun z => absurd z n8, fun _ z => absurd n19 z⟩
          · exact (sm_tyb o1 o2 hk hle n8 n19).mpr (hb1 n8 n19)
      refine sm_yps ht hp8 (hmk p hp8) h13 (fun z => h14 (Or.inr z)) (fun o13 => br_f (sm_bl _) ?_) (fun o13 => br_t (by decide) (g0 hty ?_))
      · rw [pk_sub hle, nI_1]
        have hps : sm_ps t = 1 := if_pos o13
        refine pk_le (h - sm_pop pm t + 1) 8 (fun z => g0 hty (by unfold sm_h2; rw [hps]; exact z)) (fun z => g7 hty (by unfold sm_h2; rw [hps]; omega))
      · have hps : sm_ps t = 0 := if_neg (by omega)
        unfold sm_h2
        omega
    · have key : ∀ w : Bool, (k.testBit (h - sm_pop pm t + j) = w → wY_refusal_177 post (nI t) (nI (t % 100)) (nI p) (nI (sm_pop pm t)) (nI cp) (nI lm) sta (nI np) opn (nI nt) (nI h) (nI d) (nI fr) (nI bo) col (nI oc) res (sm_n tk) (sm_n fi) (sm_n pm) (sm_n vs) (sm_n mk) (sm_k gl) yt yb ys yr (sm_n fp) (sm_n fa) (sm_n fh) lo st he nu lf rg ou m (nI (j + 1))) → (k.testBit (h - sm_pop pm t + j) ≠ w → post 6 (nI cp, nI lm, sta, nI np, opn, nI nt, nI h, nI d, nI fr, nI bo, col, nI oc, res, sm_n tk, sm_n fi, sm_n pm, sm_n vs, sm_n mk, sm_k gl, yt, yb, ys, yr, sm_n fp, sm_n fa, sm_n fh, lo, st, he, nu, lf, rg, ou)) →
        (fun r_135 : Int32 => ((r_135 < 0 → (∀ x6_170 : Int32, x6_170 = nI j + 1 → (wY_refusal_177 post (nI t) (nI (t % 100)) (nI p) (nI (sm_pop pm t)) (nI cp) (nI lm) sta (nI np) opn (nI nt) (nI h) (nI d) (nI fr) (nI bo) col (nI oc) res (sm_n tk) (sm_n fi) (sm_n pm) (sm_n vs) (sm_n mk) (sm_k gl) yt yb ys yr (sm_n fp) (sm_n fa) (sm_n fh) lo st he nu lf rg ou m x6_170))) ∧ (¬ r_135 < 0 → (vp_in ((nI h - nI (sm_pop pm t)) + nI j) 8 ∧ (((yt ((nI h - nI (sm_pop pm t)) + nI j).toNatClampNeg = r_135 → (∀ x6_173 : Int32, x6_173 = nI j + 1 → (wY_refusal_177 post (nI t) (nI (t % 100)) (nI p) (nI (sm_pop pm t)) (nI cp) (nI lm) sta (nI np) opn (nI nt) (nI h) (nI d) (nI fr) (nI bo) col (nI oc) res (sm_n tk) (sm_n fi) (sm_n pm) (sm_n vs) (sm_n mk) (sm_k gl) yt yb ys yr (sm_n fp) (sm_n fa) (sm_n fh) lo st he nu lf rg ou m x6_173))) ∧ (¬ yt ((nI h - nI (sm_pop pm t)) + nI j).toNatClampNeg = r_135 → post 6 (nI cp, nI lm, sta, nI np, opn, nI nt, nI h, nI d, nI fr, nI bo, col, nI oc, res, sm_n tk, sm_n fi, sm_n pm, sm_n vs, sm_n mk, sm_k gl, yt, yb, ys, yr, sm_n fp, sm_n fa, sm_n fh, lo, st, he, nu, lf, rg, ou)))))))) (nI w.toNat) := by
        intro w k1 k2
        refine br_f (sm_bl w) ?_
        rw [pk_sub hle, nI_add, nI_clamp (by omega), htt _ (by omega), sm_bb]
        exact ⟨vp_in_nI (by omega) (by decide), fun z => nm_r (nI_1 j) (k1 z), fun z => k2 z⟩
      by_cases n19 : t % 100 = 19
      · refine And.intro sm_100 (nm_r (sm_rm (by omega)) ?_)
        rw [n19]
        refine br_f (by decide) (br_f (by decide) (br_f (by decide) (br_f (by decide) (br_f (by decide) (br_t (by decide) (br_t (by decide) (nm_r (nI_1 j) ?_)))))))
        have := ih (j + 1) (by omega) (by omega) (fun _ z => absurd n19 z) (fun z => by omega)
        rw [n19] at this
        exact this
      · by_cases n8 : t % 100 = 8
        · have hp2 := sm_pop8 (pm := pm) n8
          refine And.intro sm_100 (nm_r (sm_rm (by omega)) (br_t (by rw [n8]; decide) ?_))
          have e1 : yt (nI h - 1).toNatClampNeg = nI (k.testBit (h - 1)).toNat := by rw [sm_sb1 (by omega), nI_clamp (by omega), htt _ (by omega)]
          rw [e1]
          refine ⟨by rw [sm_sb1 (by omega)]; exact vp_in_nI (by omega) (by decide), key _ (fun z => ih (j + 1) (by omega) (by omega) (fun z => absurd n8 z) (fun _ _ => ?_)) (fun z => g6 (fun y => z ?_))⟩
          · by_cases j0 : j = 0
            · rw [hp2, j0] at z; exact z
            · exact hb8 n8 (by omega)
          · have y := (sm_ty8 n8 hk (by omega)).mp y
            have : j = 0 ∨ j = 1 := by omega
            rcases this with j0 | j0
            · rw [hp2, j0]; exact y
            · rw [hp2, j0]; congr 1; omega
        · refine sm_ywa ht o1 o2 hp8 hmk h13 (fun z => h14 (Or.inl z)) (by omega) (by omega) n8 n19 (key _ (fun z => ih (j + 1) (by omega) (by omega) (fun _ _ q hq => ?_) (fun z => absurd z n8)) (fun z => g6 (fun y => z ((sm_tyb o1 o2 hk hle n8 n19).mp y j (by omega)))))
          by_cases eq : q = j
          · rw [eq]; exact z
          · exact hb1 n8 n19 q (by omega)
end
end
section
/-! one token: both checks give one answer -/
section
variable {xle xpe sta opn xch xck xbc xcb xcc col res yh yd : Int32} {cp lm np nt fr sb us bo oc : Nat} {pm vs mk fi tk xo xj ow xh xk xl fp fa fh cb : Nat → Nat} {gl : Nat → Bool} {xbk xbp xbh sl cn cl cr fw ou yt yb ys yr lo st he nu lf rg : Nat → Int32} {hh kk dp : Nat → Nat} {pt hd : Nat → Nat → Nat}
variable {t : Nat}
def sm_ED (nt : Nat) (tk hh kk dp : Nat → Nat) (pt hd : Nat → Nat → Nat) (xch xck xbc : Int32) (xbk xbp xbh : Nat → Int32) : Prop :=
  xch = nI (hh nt) ∧ xck = nI (kk nt) ∧ xbc = nI (dp nt) ∧ ∀ l, l < dp nt → xbk l = nI (tk (pt nt l)) ∧ xbp l = nI (pt nt l) ∧ xbh l = nI (hd nt l)
def sm_kd (tk dp : Nat → Nat) (pt : Nat → Nat → Nat) (nt : Nat) : Nat := if dp nt = 0 then 0 else tk (pt nt (dp nt - 1))
def sm_TK (np nt : Nat) (pm vs mk : Nat → Nat) (gl : Nat → Bool) (tk hh kk dp : Nat → Nat) (pt : Nat → Nat → Nat) (t : Nat) : Prop :=
  sm_C1 t ∧ nt < 160 ∧ (t % 100 = 3 ∨ t % 100 = 14 → t / 100 < vs (np - 1)) ∧ (t % 100 = 13 → t / 100 < np) ∧ (sm_pop pm t ≤ hh nt ∧ (20 ≤ t % 100 → hh nt = sm_pop pm t)) ∧
  sm_ty pm mk gl (np - 1) t (hh nt) (kk nt) ∧ sm_h2 pm t (hh nt) ≤ 8 ∧ sm_BO (dp nt) (sm_kd tk dp pt nt) (t % 100)
/-- the tokens of the last procedure -/
theorem sm_last (hP : sm_PG opn np nt pm vs mk gl fi tk xo xj ow hh kk dp pt hd) : ∀ k, fi (np - 1) ≤ k → k < nt → ow k = np - 1 := by
  intro k h1 h2
  have h3 := (sm_PA hP h2).2.2.2.2.2.2
  by_cases e : ow k = np - 1
  · exact e
  · have := (sm_PO hP h2).2.1 (np - 1) (by omega) (by omega)
    omega
theorem sm_mk8 (hP : sm_PG opn np nt pm vs mk gl fi tk xo xj ow hh kk dp pt hd) {q : Nat} (hq : q < np) : mk q < 256 := Nat.lt_of_lt_of_le (sm_PQ hP hq).2.2.2.1 (sm_p8 (sm_PQ hP hq).2.2.1)
theorem sm_kdb (hP : sm_PG opn np nt pm vs mk gl fi tk xo xj ow hh kk dp pt hd) : sm_kd tk dp pt nt < 100 ∧ (dp nt = 0 → sm_kd tk dp pt nt = 0) ∧ (0 < dp nt → sm_kd tk dp pt nt = tk (pt nt (dp nt - 1))) := by
  unfold sm_kd
  refine ⟨?_, fun e => if_pos e, fun e => if_neg (by omega)⟩
  split
  · omega
  · have := (sm_PP hP (Nat.le_refl nt)).2 (dp nt - 1) (by omega)
    omega
/-- the reference's side -/
theorem sm_ycs {post : Int32 → SY → Prop} (hP : sm_PG opn np nt pm vs mk gl fi tk xo xj ow hh kk dp pt hd) (n1 : 1 ≤ np) (hmk : ∀ q, q < 8 → mk q < 256) (ht : t < 1000000) (o1 : 1 ≤ t % 100) (o2 : t % 100 ≤ 25) (h13 : t % 100 = 13 → t / 100 < np) (h14 : t % 100 = 14 ∨ t % 100 = 3 → t / 100 < 8)
    (g5 : ∀ yh yd yt yb, ¬ (sm_pop pm t ≤ hh nt ∧ (20 ≤ t % 100 → hh nt = sm_pop pm t)) → post 5 (nI cp, nI lm, sta, nI np, opn, nI nt, yh, yd, nI fr, nI bo, col, nI oc, res, sm_n tk, sm_n fi, sm_n pm, sm_n vs, sm_n mk, sm_k gl, yt, yb, ys, yr, sm_n fp, sm_n fa, sm_n fh, lo, st, he, nu, lf, rg, ou))
    (g6 : ∀ yh yd yt yb, sm_pop pm t ≤ hh nt ∧ (20 ≤ t % 100 → hh nt = sm_pop pm t) → ¬ sm_ty pm mk gl (np - 1) t (hh nt) (kk nt) → post 6 (nI cp, nI lm, sta, nI np, opn, nI nt, yh, yd, nI fr, nI bo, col, nI oc, res, sm_n tk, sm_n fi, sm_n pm, sm_n vs, sm_n mk, sm_k gl, yt, yb, ys, yr, sm_n fp, sm_n fa, sm_n fh, lo, st, he, nu, lf, rg, ou))
    (g7 : ∀ yh yd yt yb, sm_pop pm t ≤ hh nt ∧ (20 ≤ t % 100 → hh nt = sm_pop pm t) → sm_ty pm mk gl (np - 1) t (hh nt) (kk nt) → ¬ sm_h2 pm t (hh nt) ≤ 8 → post 7 (nI cp, nI lm, sta, nI np, opn, nI nt, yh, yd, nI fr, nI bo, col, nI oc, res, sm_n tk, sm_n fi, sm_n pm, sm_n vs, sm_n mk, sm_k gl, yt, yb, ys, yr, sm_n fp, sm_n fa, sm_n fh, lo, st, he, nu, lf, rg, ou))
    (g8 : ∀ yh yd yt yb, sm_pop pm t ≤ hh nt ∧ (20 ≤ t % 100 → hh nt = sm_pop pm t) → sm_ty pm mk gl (np - 1) t (hh nt) (kk nt) → sm_h2 pm t (hh nt) ≤ 8 → ¬ sm_BO (dp nt) (sm_kd tk dp pt nt) (t % 100) → post 8 (nI cp, nI lm, sta, nI np, opn, nI nt, yh, yd, nI fr, nI bo, col, nI oc, res, sm_n tk, sm_n fi, sm_n pm, sm_n vs, sm_n mk, sm_k gl, yt, yb, ys, yr, sm_n fp, sm_n fa, sm_n fh, lo, st, he, nu, lf, rg, ou))
    (g0 : ∀ yh yd yt yb, yd = nI (dp nt) → sm_pop pm t ≤ hh nt ∧ (20 ≤ t % 100 → hh nt = sm_pop pm t) → sm_ty pm mk gl (np - 1) t (hh nt) (kk nt) → sm_h2 pm t (hh nt) ≤ 8 → sm_BO (dp nt) (sm_kd tk dp pt nt) (t % 100) → post 0 (nI cp, nI lm, sta, nI np, opn, nI nt, yh, yd, nI fr, nI bo, col, nI oc, res, sm_n tk, sm_n fi, sm_n pm, sm_n vs, sm_n mk, sm_k gl, yt, yb, ys, yr, sm_n fp, sm_n fa, sm_n fh, lo, st, he, nu, lf, rg, ou)) :
    wY_refusal_131 post (nI t) (nI (t % 100)) (nI (np - 1)) (nI cp) (nI lm) sta (nI np) opn (nI nt) yh yd (nI fr) (nI bo) col (nI oc) res (sm_n tk) (sm_n fi) (sm_n pm) (sm_n vs) (sm_n mk) (sm_k gl) yt yb ys yr (sm_n fp) (sm_n fa) (sm_n fh) lo st he nu lf rg ou := by
  have n8 := hP.1.1
  have hp3 : sm_pop pm t ≤ 3 := sm_popb o1 o2 (fun e => (sm_PQ hP (h13 e)).1)
  obtain ⟨h8, hk⟩ := sm_PH hP (Nat.le_refl nt)
  obtain ⟨kd1, kd2, kd3⟩ := sm_kdb hP
  have d6 := (sm_PP hP (Nat.le_refl nt)).1
  unfold wY_refusal_131
  refine sm_ywalk hP (show np - 1 < np by omega) (Nat.le_refl nt) (sm_PQ hP (show np - 1 < np by omega)).2.2.2.2.1 (sm_last hP) (fun yt' yb' htt hbk => ?_)
  dsimp only
  refine sm_ypop ht (fun e => by have := h13 e; omega) ?_
  have k177 : sm_pop pm t ≤ hh nt ∧ (20 ≤ t % 100 → hh nt = sm_pop pm t) → ∃ n177 : Nat, wY_refusal_177 post (nI t) (nI (t % 100)) (nI (np - 1)) (nI (sm_pop pm t)) (nI cp) (nI lm) sta (nI np) opn (nI nt) (nI (hh nt)) (nI (dp nt)) (nI fr) (nI bo) col (nI oc) res (sm_n tk) (sm_n fi) (sm_n pm) (sm_n vs) (sm_n mk) (sm_k gl) yt' yb' ys yr (sm_n fp) (sm_n fa) (sm_n fh) lo st he nu lf rg ou n177 0 := fun z =>
    ⟨sm_pop pm t + 1, sm_y177 ht o1 o2 (by omega) hmk (fun e => by have := h13 e; omega) h14 h8 hk z.1 hp3 htt (fun a => g6 _ _ _ _ z a) (fun a b => g7 _ _ _ _ z a b)
      (fun a b => sm_y260 d6 kd1 (Nat.mod_lt _ (by decide)) kd2 (fun c => by rw [kd3 c]; exact hbk _ (by omega)) (fun c => g0 _ _ _ _ rfl z a b c) (fun c => g8 _ _ _ _ z a b c))
      _ 0 (by omega) (by omega) (fun _ _ q hq => by omega) (fun _ z => by omega)⟩
  exact pk_lt (hh nt) (sm_pop pm t) (fun z => g5 _ _ _ _ (by omega)) (fun z => pk_lt (t % 100) 20 (fun a => k177 ⟨z, fun y => by omega⟩) (fun a => pk_eq (hh nt) (sm_pop pm t) (fun e => k177 ⟨z, fun _ => e⟩) (fun e => g5 _ _ _ _ (by omega))))
theorem sm_chk (hP : sm_PG opn np nt pm vs mk gl fi tk xo xj ow hh kk dp pt hd) (hmk : ∀ q, q < 8 → mk q < 256) (hE : opn ≠ 0 → sm_ED nt tk hh kk dp pt hd xch xck xbc xbk xbp xbh) (x : Int32) :
    ∃ r, (∀ post : Int32 → Prop, post (nI r) → wpX_check post (xle, xpe, nI cp, nI lm, sta, nI np, opn, nI nt, xch, xck, xbc, nI fr, nI sb, nI us, xcb, xcc, col, nI bo, nI oc, res, sm_n pm, sm_n vs, sm_n mk, sm_k gl, sm_n fi, sm_n tk, sm_n xo, sm_n (sm_ar tk), sm_n xj, sm_n ow, sm_n xh, sm_n xk, sm_n xl, xbk, xbp, xbh, sm_n fp, sm_n fa, sl, cn, cl, cr, sm_n cb, fw, ou) x) ∧ (∀ post : Int32 → SY → Prop, (∀ yh yd yt yb, (r = 0 → yd = nI (dp nt)) → post (nI r) (nI cp, nI lm, sta, nI np, opn, nI nt, yh, yd, nI fr, nI bo, col, nI oc, res, sm_n tk, sm_n fi, sm_n pm, sm_n vs, sm_n mk, sm_k gl, yt, yb, ys, yr, sm_n fp, sm_n fa, sm_n fh, lo, st, he, nu, lf, rg, ou)) → ∀ yh yd yt yb, wpY_refusal post (nI cp, nI lm, sta, nI np, opn, nI nt, yh, yd, nI fr, nI bo, col, nI oc, res, sm_n tk, sm_n fi, sm_n pm, sm_n vs, sm_n mk, sm_k gl, yt, yb, ys, yr, sm_n fp, sm_n fa, sm_n fh, lo, st, he, nu, lf, rg, ou) x) ∧ r ≤ 8 ∧ (r = 0 → opn ≠ 0 ∧ ∃ t, x = nI t ∧ sm_TK np nt pm vs mk gl tk hh kk dp pt t) := by
  have n8 := hP.1.1
  have n160 := hP.1.2.1
  have n1 : opn ≠ 0 → 1 ≤ np := fun e => by
    rcases hP.2.1 with z | z
    · exact absurd z e
    · exact z.2
  have hv : opn ≠ 0 → vs (np - 1) ≤ 8 := fun e => (sm_PQ hP (show np - 1 < np by have := n1 e; omega)).2.2.1
  by_cases hx : x < 0
  · exact ⟨1, fun post h => sm_xneg hx h, fun post h _ _ _ _ => sm_yneg hx (h _ _ _ _ (by omega)), by omega, fun z => by omega⟩
  obtain ⟨t, ht, rfl⟩ := nI_of hx
  by_cases c1 : sm_C1 t
  rotate_left
  · exact ⟨1, fun post h => sm_xcA ht (fun z => absurd z c1) (fun _ => h), fun post h _ _ _ _ => sm_ycA ht (fun z => absurd z c1) (fun _ => h _ _ _ _ (by omega)), by omega, fun z => by omega⟩
  have c1' := c1
  obtain ⟨o1, o2, x4, _⟩ := c1
  have ht6 : t < 1000000 := by omega
  rcases sm_cB (t := t) n1 n8 n160 hv x4 with ⟨r, r1, r2, hX, hY⟩ | ⟨⟨d1, d2, d3, d4⟩, hX, hY⟩
  · exact ⟨r, fun post h => sm_xcA ht (fun _ => hX post h) (fun z => absurd c1' z), fun post h yh yd yt yb => sm_ycA ht (fun _ => hY post yh yd yt yb (h _ _ _ _ (by omega))) (fun z => absurd c1' z), by omega, fun z => by omega⟩
  have n1 := n1 d1
  have hv := hv d1
  obtain ⟨rfl, rfl, rfl, hb⟩ := hE d1
  obtain ⟨h8, hk⟩ := sm_PH hP (Nat.le_refl nt)
  obtain ⟨kd1, kd2, kd3⟩ := sm_kdb hP
  have d6 := (sm_PP hP (Nat.le_refl nt)).1
  have XA : ∀ post : Int32 → Prop, wpX_checkStack post (xle, xpe, nI cp, nI lm, sta, nI np, opn, nI nt, nI (hh nt), nI (kk nt), nI (dp nt), nI fr, nI sb, nI us, xcb, xcc, col, nI bo, nI oc, res, sm_n pm, sm_n vs, sm_n mk, sm_k gl, sm_n fi, sm_n tk, sm_n xo, sm_n (sm_ar tk), sm_n xj, sm_n ow, sm_n xh, sm_n xk, sm_n xl, xbk, xbp, xbh, sm_n fp, sm_n fa, sl, cn, cl, cr, sm_n cb, fw, ou) (nI (t % 100)) (nI (t / 100)) → wpX_check post (xle, xpe, nI cp, nI lm, sta, nI np, opn, nI nt, nI (hh nt), nI (kk nt), nI (dp nt), nI fr, nI sb, nI us, xcb, xcc, col, nI bo, nI oc, res, sm_n pm, sm_n vs, sm_n mk, sm_k gl, sm_n fi, sm_n tk, sm_n xo, sm_n (sm_ar tk), sm_n xj, sm_n ow, sm_n xh, sm_n xk, sm_n xl, xbk, xbp, xbh, sm_n fp, sm_n fa, sl, cn, cl, cr, sm_n cb, fw, ou) (nI t) := fun post h => sm_xcA ht (fun _ => hX post h) (fun z => absurd c1' z)
  have YA : ∀ (post : Int32 → SY → Prop) (yh yd : Int32) (yt yb : Nat → Int32), wY_refusal_131 post (nI t) (nI (t % 100)) (nI (np - 1)) (nI cp) (nI lm) sta (nI np) opn (nI nt) yh yd (nI fr) (nI bo) col (nI oc) res (sm_n tk) (sm_n fi) (sm_n pm) (sm_n vs) (sm_n mk) (sm_k gl) yt yb ys yr (sm_n fp) (sm_n fa) (sm_n fh) lo st he nu lf rg ou → wpY_refusal post (nI cp, nI lm, sta, nI np, opn, nI nt, yh, yd, nI fr, nI bo, col, nI oc, res, sm_n tk, sm_n fi, sm_n pm, sm_n vs, sm_n mk, sm_k gl, yt, yb, ys, yr, sm_n fp, sm_n fa, sm_n fh, lo, st, he, nu, lf, rg, ou) (nI t) := fun post yh yd yt yb h => sm_ycA ht (fun _ => hY post yh yd yt yb h) (fun z => absurd c1' z)
  have zk : 0 < dp nt → xbk (dp nt - 1) = nI (sm_kd tk dp pt nt) := fun c => by rw [kd3 c]; exact (hb _ (by omega)).1
  have hpm : ∀ q, q < np → pm q ≤ 3 := fun q hq => (sm_PQ hP hq).1
  have hmk2 : ∀ q, q < np → mk q < 256 := fun q hq => hmk q (by omega)
  have h14 : t % 100 = 14 ∨ t % 100 = 3 → t / 100 < 8 := fun z => by have := d3 (by omega); omega
  by_cases c5 : sm_pop pm t ≤ hh nt ∧ (20 ≤ t % 100 → hh nt = sm_pop pm t)
  rotate_left
  · exact ⟨5, fun post h => XA post (sm_xcs ht6 o1 o2 n8 n1 d4 hpm hmk2 (fun z => h14 (Or.inl z)) h8 hk d6 kd1 kd2 zk (fun _ => h) (fun z => absurd z c5) (fun z => absurd z c5) (fun z => absurd z c5) (fun z => absurd z c5)),
      fun post h yh yd yt yb => YA post yh yd yt yb (sm_ycs hP n1 hmk ht6 o1 o2 d4 h14 (fun _ _ _ _ _ => h _ _ _ _ (by omega)) (fun _ _ _ _ z => absurd z c5) (fun _ _ _ _ z => absurd z c5) (fun _ _ _ _ z => absurd z c5) (fun _ _ _ _ _ z => absurd z c5)), by omega, fun z => by omega⟩
  by_cases c6 : sm_ty pm mk gl (np - 1) t (hh nt) (kk nt)
  rotate_left
  · exact ⟨6, fun post h => XA post (sm_xcs ht6 o1 o2 n8 n1 d4 hpm hmk2 (fun z => h14 (Or.inl z)) h8 hk d6 kd1 kd2 zk (fun z => absurd c5 z) (fun _ _ => h) (fun _ z => absurd z c6) (fun _ z => absurd z c6) (fun _ z => absurd z c6)),
      fun post h yh yd yt yb => YA post yh yd yt yb (sm_ycs hP n1 hmk ht6 o1 o2 d4 h14 (fun _ _ _ _ z => absurd c5 z) (fun _ _ _ _ _ _ => h _ _ _ _ (by omega)) (fun _ _ _ _ _ z => absurd z c6) (fun _ _ _ _ _ z => absurd z c6) (fun _ _ _ _ _ _ z => absurd z c6)), by omega, fun z => by omega⟩
  by_cases c7 : sm_h2 pm t (hh nt) ≤ 8
  rotate_left
  · exact ⟨7, fun post h => XA post (sm_xcs ht6 o1 o2 n8 n1 d4 hpm hmk2 (fun z => h14 (Or.inl z)) h8 hk d6 kd1 kd2 zk (fun z => absurd c5 z) (fun _ z => absurd c6 z) (fun _ _ _ => h) (fun _ _ z => absurd z c7) (fun _ _ z => absurd z c7)),
      fun post h yh yd yt yb => YA post yh yd yt yb (sm_ycs hP n1 hmk ht6 o1 o2 d4 h14 (fun _ _ _ _ z => absurd c5 z) (fun _ _ _ _ _ z => absurd c6 z) (fun _ _ _ _ _ _ _ => h _ _ _ _ (by omega)) (fun _ _ _ _ _ _ z => absurd z c7) (fun _ _ _ _ _ _ _ z => absurd z c7)), by omega, fun z => by omega⟩
  by_cases c8 : sm_BO (dp nt) (sm_kd tk dp pt nt) (t % 100)
  rotate_left
  · exact ⟨8, fun post h => XA post (sm_xcs ht6 o1 o2 n8 n1 d4 hpm hmk2 (fun z => h14 (Or.inl z)) h8 hk d6 kd1 kd2 zk (fun z => absurd c5 z) (fun _ z => absurd c6 z) (fun _ _ z => absurd c7 z) (fun _ _ _ _ => h) (fun _ _ _ z => absurd z c8)),
      fun post h yh yd yt yb => YA post yh yd yt yb (sm_ycs hP n1 hmk ht6 o1 o2 d4 h14 (fun _ _ _ _ z => absurd c5 z) (fun _ _ _ _ _ z => absurd c6 z) (fun _ _ _ _ _ _ z => absurd c7 z) (fun _ _ _ _ _ _ _ _ => h _ _ _ _ (by omega)) (fun _ _ _ _ _ _ _ _ z => absurd z c8)), by omega, fun z => by omega⟩
  exact ⟨0, fun post h => XA post (sm_xcs ht6 o1 o2 n8 n1 d4 hpm hmk2 (fun z => h14 (Or.inl z)) h8 hk d6 kd1 kd2 zk (fun z => absurd c5 z) (fun _ z => absurd c6 z) (fun _ _ z => absurd c7 z) (fun _ _ _ z => absurd c8 z) (fun _ _ _ _ => h)),
      fun post h yh yd yt yb => YA post yh yd yt yb (sm_ycs hP n1 hmk ht6 o1 o2 d4 h14 (fun _ _ _ _ z => absurd c5 z) (fun _ _ _ _ _ z => absurd c6 z) (fun _ _ _ _ _ _ z => absurd c7 z) (fun _ _ _ _ _ _ _ z => absurd c8 z) (fun _ _ _ _ e _ _ _ _ => h _ _ _ _ (fun _ => e))), by omega, fun _ => ⟨d1, t, rfl, c1', d2, d3, d4, c5, c6, c7, c8⟩⟩
end
end
section
/-! a token is taken: the program's form stays -/
section
variable {np nt : Nat} {pm vs mk fi tk xo xj ow hh kk dp : Nat → Nat} {gl : Nat → Bool} {pt hd : Nat → Nat → Nat} {opn opn' : Int32}
variable {t d' oN : Nat} {ptN hdN xj' : Nat → Nat}
/-- nothing at or below nt changes -/
theorem sm_scx {i l j : Nat} (hj : j ≤ nt) (h : sm_sc dp pt i l j) : sm_sc (sm_u dp (nt + 1) d') (sm_u pt (nt + 1) ptN) i l j := by
  obtain ⟨s1, s2, s3⟩ := h
  refine ⟨s1, by rw [sm_un (by omega)]; exact s2, fun k k1 k2 => ?_⟩
  rw [sm_un (show k ≠ nt + 1 by omega), sm_un (show k ≠ nt + 1 by omega)]
  exact s3 k k1 k2
theorem sm_clx {i : Nat} (e : xj' i = xj i) (h : sm_cl tk xj dp pt nt i) : sm_cl (sm_u tk nt t) xj' (sm_u dp (nt + 1) d') (sm_u pt (nt + 1) ptN) (nt + 1) i := by
  obtain ⟨j, j1, j2, j3, j4, j5⟩ := h
  refine ⟨j, by omega, ?_, ?_, ?_, by rw [e]; exact j5⟩
  · rw [sm_un (by omega)]; exact j2
  · rw [sm_un (by omega)]; exact sm_scx (by omega) j3
  · rw [sm_un (by omega)]; exact j4
theorem sm_ext (h : sm_PG opn np nt pm vs mk gl fi tk xo xj ow hh kk dp pt hd) (n1 : 1 ≤ np) (ho1 : opn = 1) (hK : sm_TK np nt pm vs mk gl tk hh kk dp pt t)
    (hC : sm_tC (sm_u tk nt t) (sm_u dp (nt + 1) d') (sm_u pt (nt + 1) ptN) (sm_u hd (nt + 1) hdN) nt)
    (hD : sm_tD (sm_u tk nt t) (sm_u xo nt oN) xj' (sm_u dp (nt + 1) d') (sm_u pt (nt + 1) ptN) (sm_u hd (nt + 1) hdN) nt)
    (hx : ∀ i, i < nt → tk i % 100 = 24 → xj' i = xj i)
    (hJ : ∀ i, i < nt → (tk i % 100 = 20 ∨ tk i % 100 = 21 ∨ tk i % 100 = 23) → (∃ l, l < d' ∧ ptN l = i) ∨ (xj' i = xj i ∧ sm_cl tk xj dp pt nt i) ∨ (sm_sc dp pt i (dp nt - 1) nt ∧ 1 ≤ dp nt ∧ (t % 100 = 24 ∨ t % 100 = 21) ∧ xj' i = nt + 1))
    (hN : t % 100 = 20 ∨ t % 100 = 21 ∨ t % 100 = 23 → ∃ l, l < d' ∧ ptN l = nt)
    (hO : (opn' = 0 ∧ t % 100 = 24 ∧ dp nt = 0) ∨ (opn' = 1 ∧ ¬ (t % 100 = 24 ∧ dp nt = 0))) :
    sm_PG opn' np (nt + 1) pm vs mk gl fi (sm_u tk nt t) (sm_u xo nt oN) xj' (sm_u ow nt (np - 1)) (sm_u hh (nt + 1) (sm_h2 pm t (hh nt))) (sm_u kk (nt + 1) (sm_k2 pm mk gl (np - 1) t (hh nt) (kk nt))) (sm_u dp (nt + 1) d') (sm_u pt (nt + 1) ptN) (sm_u hd (nt + 1) hdN) := by
  obtain ⟨⟨k1, k2, k3, k4⟩, k5, k6, k7, k8, k9, k10, k11⟩ := hK
  have h8 := h.1.1
  obtain ⟨hk8, hkk⟩ := sm_PH h (Nat.le_refl nt)
  have hq := sm_PQ h (show np - 1 < np by omega)
  have hPP := fun {i} (hi : i ≤ nt) => sm_PP h hi
  refine ⟨⟨h8, by omega, ?_, ?_, ?_⟩, ?_, fun i hi => ?_, fun i hi => ?_, fun i hi => ?_, fun i hi => ?_, fun i hi => ?_, fun i hi => ?_, fun q hq2 => ?_, fun e => ?_, fun e1 e2 => ?_, fun e k k1 k2 => ?_⟩
  · rw [sm_un (by omega)]; exact h.1.2.2.1
  · rw [sm_un (by omega)]; exact h.1.2.2.2.1
  · rw [sm_un (by omega)]; exact h.1.2.2.2.2
  · rcases hO with z | z
    · exact Or.inl z.1
    · exact Or.inr ⟨z.1, n1⟩
  · by_cases e : i = nt
    · subst e
      unfold sm_tA
      rw [sm_us, sm_us]
      exact ⟨k1, k2, by clear hN hJ; omega, fun a b c d => by clear hN hJ; omega, k6, k7, by clear hN hJ; omega⟩
    · have := sm_PA h (show i < nt by omega)
      unfold sm_tA at this ⊢
      rw [sm_un e, sm_un e]
      exact this
  · by_cases e : i = nt
    · subst e
      unfold sm_tB
      rw [sm_us, sm_us, sm_un (by omega), sm_un (by omega), sm_us, sm_us]
      exact ⟨k8.1, k8.2, k9, rfl, k10, rfl⟩
    · have := sm_PB h (show i < nt by omega)
      unfold sm_tB at this ⊢
      rw [sm_un e, sm_un e, sm_un (by omega), sm_un (by omega), sm_un (by omega), sm_un (by omega)]
      exact this
  · by_cases e : i = nt
    · subst e; exact hC
    · have := sm_PC h (show i < nt by omega)
      have hp := (hPP (show i ≤ nt by omega)).2 (dp i - 1)
      have hpn : 1 ≤ dp i → pt i (dp i - 1) ≠ nt := fun z => by
        have := (hp (by omega)).1.1
        omega
      unfold sm_tC at this ⊢
      rw [sm_un e, sm_un (show i ≠ nt + 1 by omega), sm_un (show i + 1 ≠ nt + 1 by omega), sm_un (show i ≠ nt + 1 by omega), sm_un (show i + 1 ≠ nt + 1 by omega), sm_un (show i ≠ nt + 1 by omega), sm_un (show i + 1 ≠ nt + 1 by omega)]
      obtain ⟨c1, c2, c3, c4, c5⟩ := this
      refine ⟨c1, fun z => ?_, fun z => ?_, fun z => ?_, c5⟩
      · have c := c2 z
        rw [sm_un (hpn c.1)]; exact c
      · have c := c3 z
        rw [sm_un (hpn c.1)]; exact c
      · have c := c4 z
        exact ⟨fun y => by rw [sm_un (hpn y)]; exact c.1 y, c.2⟩
  · by_cases e : i = nt
    · subst e; exact hD
    · have := sm_PD h (show i < nt by omega)
      have hp := (hPP (show i ≤ nt by omega)).2 (dp i - 1)
      have hpn : 1 ≤ dp i → pt i (dp i - 1) ≠ nt := fun z => by
        have := (hp (by omega)).1.1
        omega
      unfold sm_tD at this ⊢
      rw [sm_un e, sm_un e, sm_un (show i ≠ nt + 1 by omega), sm_un (show i ≠ nt + 1 by omega), sm_un (show i ≠ nt + 1 by omega)]
      obtain ⟨c1, c2, c3, c4⟩ := this
      refine ⟨c1, c2, fun z1 z2 => ?_, fun z1 z2 => ?_⟩
      · rw [sm_un (hpn z2), hx i (by omega) z1]; exact c3 z1 z2
      · rw [sm_un (hpn z2)]; exact c4 z1 z2
  · intro z
    rw [sm_us, sm_us]
    by_cases e : i = nt
    · subst e
      rw [sm_us] at z
      exact Or.inl (hN z)
    · rw [sm_un e] at z
      rcases hJ i (by omega) z with a | a | a
      · exact Or.inl a
      · exact Or.inr (sm_clx a.1 a.2)
      · refine Or.inr ⟨nt, by omega, ?_, ?_, ?_, a.2.2.2⟩
        · rw [sm_un (by omega)]; exact a.2.1
        · rw [sm_un (show nt ≠ nt + 1 by omega)]; exact sm_scx (Nat.le_refl nt) a.1
        · rw [sm_us]; exact a.2.2.1
  · by_cases e : i = nt
    · subst e
      unfold sm_tO
      rw [sm_us]
      refine ⟨hq.2.2.2.2.1, fun q a b => by omega, fun _ b => by omega, fun k a b y => h.2.2.2.2.2.2.2.2.2.2.2 ho1 k a b ?_⟩
      unfold sm_pe at y ⊢
      rw [sm_un (by omega), sm_un (by omega)] at y
      exact y
    · have hO1 := sm_PO h (show i < nt by omega)
      unfold sm_tO at hO1 ⊢
      rw [sm_un e]
      refine ⟨hO1.1, hO1.2.1, fun np' b => ?_, fun k a b y => hO1.2.2.2 k a b (by unfold sm_pe at y ⊢; rw [sm_un (by omega), sm_un (by omega)] at y; exact y)⟩
      have np2 : ¬ sm_pe tk dp i := fun y => np' (by unfold sm_pe at y ⊢; rw [sm_un e, sm_un (show i ≠ nt + 1 by omega)]; exact y)
      by_cases e2 : i + 1 = nt
      · rw [e2, sm_us]
        by_cases e3 : fi (np - 1) = nt
        · have := h.2.2.2.2.2.2.2.2.2.2.1 (Or.inr e3) (by omega)
          rw [show nt - 1 = i by omega] at this
          exact absurd this np2
        · exact (sm_last h i (by have := hq.2.2.2.2.1; omega) (by omega)).symm
      · rw [sm_un e2]
        exact hO1.2.2.1 np2 (by omega)
  · obtain ⟨a1, a2, a3, a4, a5, a6, a7, a8, a9, a10⟩ := sm_PQ h hq2
    refine ⟨a1, a2, a3, a4, by omega, ?_, ?_, ?_, fun z => ?_, ?_⟩
    · rw [sm_un (by omega)]; exact a6
    · rw [sm_un (by omega)]; exact a7
    · rw [sm_un (by omega)]; exact a8
    · by_cases e : fi q = nt
      · rw [e, sm_us]
        rcases a10 with y | y
        · omega
        · omega
      · rw [sm_un e]
        exact a9 (by omega)
    · exact Or.inl (by omega)
  · rcases hO with z | z
    · obtain ⟨z1, z2, z3⟩ := z
      have hp0 : sm_pop pm t = 0 := sm_pop24 z2
      have hps : sm_ps t = 0 := sm_ps24 z2
      have hh0 : hh nt = 0 := by rw [k8.2 (by omega)]; exact hp0
      obtain ⟨_, _, _, c4, _⟩ := hC
      have c4 := c4 (by rw [sm_us]; exact z2)
      rw [sm_us, sm_us, sm_us]
      have e2 : sm_h2 pm t (hh nt) = 0 := by unfold sm_h2; omega
      refine ⟨?_, e2, ?_⟩
      · have := c4.2.1
        rw [sm_us, sm_un (by omega)] at this
        omega
      · have := sm_kb (pm := pm) (mk := mk) (gl := gl) (p := np - 1) (t := t) (h := hh nt) (k := kk nt) rfl
        rw [hh0, hp0, hps] at this
        have e3 : (2 : Nat) ^ (0 - 0 + 0) = 1 := rfl
        rw [e3, ← hh0] at this
        omega
    · rw [z.1] at e; exact absurd e (by decide)
  · rcases e1 with e1 | e1
    · rcases hO with z | z
      · unfold sm_pe
        rw [show nt + 1 - 1 = nt by omega, sm_us, sm_un (by omega)]
        exact ⟨z.2.1, z.2.2⟩
      · rw [z.1] at e1; exact absurd e1 (by decide)
    · have := hq.2.2.2.2.1
      omega
  · intro y
    unfold sm_pe at y
    rcases hO with z | z
    · rw [z.1] at e; exact absurd e (by decide)
    · by_cases ek : k = nt
      · subst ek
        rw [sm_us, sm_un (by omega)] at y
        exact z.2 y
      · rw [sm_un ek, sm_un (by omega)] at y
        exact h.2.2.2.2.2.2.2.2.2.2.2 ho1 k k1 (by omega) y
end
end
section
/-! the component takes a token -/
section
variable {xle xpe sta opn xch xck xbc xcb xcc col res yh yd : Int32} {cp lm np nt fr sb us bo oc : Nat} {pm vs mk fi tk xo xj ow xh xk xl fp fa fh cb : Nat → Nat} {gl : Nat → Bool} {xbk xbp xbh sl cn cl cr fw ou yt yb ys yr lo st he nu lf rg : Nat → Int32} {hh kk dp : Nat → Nat} {pt hd : Nat → Nat → Nat}
variable {post : SX → Prop} {t o i d q e : Nat}
theorem sm_tb1 (ho : o = 20 ∨ o = 22) (hd6 : d < 6) (h : post (xle, xpe, nI cp, nI lm, sta, nI np, opn, nI nt, xch, xck, nI (d + 1), nI fr, nI sb, nI us, xcb, xcc, col, nI bo, nI oc, res, sm_n pm, sm_n vs, sm_n mk, sm_k gl, sm_n fi, sm_n tk, sm_n xo, sm_n (sm_ar tk), sm_n xj, sm_n ow, sm_n xh, sm_n xk, sm_n xl, upd xbk d (nI o), upd xbp d (nI i), upd xbh d (nI i), sm_n fp, sm_n fa, sl, cn, cl, cr, sm_n cb, fw, ou)) : wpX_takeBlock post (xle, xpe, nI cp, nI lm, sta, nI np, opn, nI nt, xch, xck, nI d, nI fr, nI sb, nI us, xcb, xcc, col, nI bo, nI oc, res, sm_n pm, sm_n vs, sm_n mk, sm_k gl, sm_n fi, sm_n tk, sm_n xo, sm_n (sm_ar tk), sm_n xj, sm_n ow, sm_n xh, sm_n xk, sm_n xl, xbk, xbp, xbh, sm_n fp, sm_n fa, sl, cn, cl, cr, sm_n cb, fw, ou) (nI o) (nI i) := by
  have k : wX_takeBlock_12 post (nI o) (nI i) xle xpe (nI cp) (nI lm) sta (nI np) opn (nI nt) xch xck (nI d) (nI fr) (nI sb) (nI us) xcb xcc col (nI bo) (nI oc) res (sm_n pm) (sm_n vs) (sm_n mk) (sm_k gl) (sm_n fi) (sm_n tk) (sm_n xo) (sm_n (sm_ar tk)) (sm_n xj) (sm_n ow) (sm_n xh) (sm_n xk) (sm_n xl) xbk xbp xbh (sm_n fp) (sm_n fa) sl cn cl cr (sm_n cb) fw ou := by
    have v : vp_in (nI d) 6 := vp_in_nI hd6 (by decide)
    rw [wX_takeBlock_12, nI_clamp (show d < 2 ^ 31 by omega)]
    exact ⟨v, nm_e ⟨v, nm_e ⟨v, nm_e (nm_r (nI_1 d) h)⟩⟩⟩
  exact pk_eq o 20 (fun _ => k) (fun z => pk_eq o 22 (fun _ => k) (fun y => absurd ho (by omega)))
theorem sm_tb0 (ho : o = 24) (hd0 : d = 0) (hi : i < 160) (h : post (xle, xpe, nI cp, nI lm, sta, nI np, 0, nI nt, xch, xck, nI d, nI fr, nI sb, nI us, xcb, xcc, col, nI bo, nI oc, res, sm_n pm, sm_n vs, sm_n mk, sm_k gl, sm_n fi, sm_n tk, sm_n (sm_u xo i 27), sm_n (sm_ar tk), sm_n xj, sm_n ow, sm_n xh, sm_n xk, sm_n xl, xbk, xbp, xbh, sm_n fp, sm_n fa, sl, cn, cl, cr, sm_n cb, fw, ou)) : wpX_takeBlock post (xle, xpe, nI cp, nI lm, sta, nI np, opn, nI nt, xch, xck, nI d, nI fr, nI sb, nI us, xcb, xcc, col, nI bo, nI oc, res, sm_n pm, sm_n vs, sm_n mk, sm_k gl, sm_n fi, sm_n tk, sm_n xo, sm_n (sm_ar tk), sm_n xj, sm_n ow, sm_n xh, sm_n xk, sm_n xl, xbk, xbp, xbh, sm_n fp, sm_n fa, sl, cn, cl, cr, sm_n cb, fw, ou) (nI o) (nI i) := by
  refine pk_eq o 20 (fun z => absurd z (by omega)) (fun _ => pk_eq o 22 (fun z => absurd z (by omega)) (fun _ => pk_eq d 0 (fun _ => ?_) (fun z => absurd hd0 z)))
  rw [nI_clamp (show i < 2 ^ 31 by omega)]
  exact ⟨vp_in_nI hi (by decide), nm_r (sm_nu xo i 27) h⟩
theorem sm_tb113 (hd1 : 1 ≤ d) (hd6 : d ≤ 6) (h : post (xle, xpe, nI cp, nI lm, sta, nI np, opn, nI nt, xch, xck, xbc, nI fr, nI sb, nI us, xcb, xcc, col, nI bo, nI oc, res, sm_n pm, sm_n vs, sm_n mk, sm_k gl, sm_n fi, sm_n tk, sm_n xo, sm_n (sm_ar tk), sm_n xj, sm_n ow, sm_n xh, sm_n xk, sm_n xl, upd xbk (d - 1) (nI o), upd xbp (d - 1) (nI i), xbh, sm_n fp, sm_n fa, sl, cn, cl, cr, sm_n cb, fw, ou)) : wX_takeBlock_113 post (nI o) (nI i) (nI (d - 1)) xle xpe (nI cp) (nI lm) sta (nI np) opn (nI nt) xch xck xbc (nI fr) (nI sb) (nI us) xcb xcc col (nI bo) (nI oc) res (sm_n pm) (sm_n vs) (sm_n mk) (sm_k gl) (sm_n fi) (sm_n tk) (sm_n xo) (sm_n (sm_ar tk)) (sm_n xj) (sm_n ow) (sm_n xh) (sm_n xk) (sm_n xl) xbk xbp xbh (sm_n fp) (sm_n fa) sl cn cl cr (sm_n cb) fw ou := by
  have v : vp_in (nI (d - 1)) 6 := vp_in_nI (by omega) (by decide)
  rw [wX_takeBlock_113, nI_clamp (show d - 1 < 2 ^ 31 by omega)]
  exact ⟨v, nm_e ⟨v, nm_e h⟩⟩
theorem sm_tb21 (ho : o = 21) (hd1 : 1 ≤ d) (hd6 : d ≤ 6) (hq : xbp (d - 1) = nI q) (hq2 : q < 160) (h : post (xle, xpe, nI cp, nI lm, sta, nI np, opn, nI nt, xch, xck, nI d, nI fr, nI sb, nI us, xcb, xcc, col, nI bo, nI oc, res, sm_n pm, sm_n vs, sm_n mk, sm_k gl, sm_n fi, sm_n tk, sm_n xo, sm_n (sm_ar tk), sm_n (sm_u xj q (i + 1)), sm_n ow, sm_n xh, sm_n xk, sm_n xl, upd xbk (d - 1) (nI o), upd xbp (d - 1) (nI i), xbh, sm_n fp, sm_n fa, sl, cn, cl, cr, sm_n cb, fw, ou)) : wpX_takeBlock post (xle, xpe, nI cp, nI lm, sta, nI np, opn, nI nt, xch, xck, nI d, nI fr, nI sb, nI us, xcb, xcc, col, nI bo, nI oc, res, sm_n pm, sm_n vs, sm_n mk, sm_k gl, sm_n fi, sm_n tk, sm_n xo, sm_n (sm_ar tk), sm_n xj, sm_n ow, sm_n xh, sm_n xk, sm_n xl, xbk, xbp, xbh, sm_n fp, sm_n fa, sl, cn, cl, cr, sm_n cb, fw, ou) (nI o) (nI i) := by
  refine pk_eq o 20 (fun z => absurd z (by omega)) (fun _ => pk_eq o 22 (fun z => absurd z (by omega)) (fun _ => pk_eq d 0 (fun z => absurd z (by omega)) (fun _ => nm_r (sm_sb1 hd1) (pk_eq o 21 (fun _ => ?_) (fun z => absurd ho z)))))
  rw [nI_clamp (show d - 1 < 2 ^ 31 by omega), hq, nI_clamp (show q < 2 ^ 31 by omega), nI_1]
  exact ⟨vp_in_nI (by omega) (by decide), vp_in_nI hq2 (by decide), nm_r (sm_nu xj q (i + 1)) (pk_eq o 21 (fun _ => sm_tb113 hd1 hd6 h) (fun z => absurd ho z))⟩
theorem sm_tb23 (ho : o = 23) (hd1 : 1 ≤ d) (hd6 : d ≤ 6) (h : post (xle, xpe, nI cp, nI lm, sta, nI np, opn, nI nt, xch, xck, nI d, nI fr, nI sb, nI us, xcb, xcc, col, nI bo, nI oc, res, sm_n pm, sm_n vs, sm_n mk, sm_k gl, sm_n fi, sm_n tk, sm_n xo, sm_n (sm_ar tk), sm_n xj, sm_n ow, sm_n xh, sm_n xk, sm_n xl, upd xbk (d - 1) (nI o), upd xbp (d - 1) (nI i), xbh, sm_n fp, sm_n fa, sl, cn, cl, cr, sm_n cb, fw, ou)) : wpX_takeBlock post (xle, xpe, nI cp, nI lm, sta, nI np, opn, nI nt, xch, xck, nI d, nI fr, nI sb, nI us, xcb, xcc, col, nI bo, nI oc, res, sm_n pm, sm_n vs, sm_n mk, sm_k gl, sm_n fi, sm_n tk, sm_n xo, sm_n (sm_ar tk), sm_n xj, sm_n ow, sm_n xh, sm_n xk, sm_n xl, xbk, xbp, xbh, sm_n fp, sm_n fa, sl, cn, cl, cr, sm_n cb, fw, ou) (nI o) (nI i) := by
  refine pk_eq o 20 (fun z => absurd z (by omega)) (fun _ => pk_eq o 22 (fun z => absurd z (by omega)) (fun _ => pk_eq d 0 (fun z => absurd z (by omega)) (fun _ => nm_r (sm_sb1 hd1) (pk_eq o 21 (fun z => absurd z (by omega)) (fun _ => ?_)))))
  exact pk_eq o 21 (fun z => absurd z (by omega)) (fun _ => pk_eq o 23 (fun _ => sm_tb113 hd1 hd6 h) (fun z => absurd ho z))
theorem sm_tb24a (ho : o = 24) (hd1 : 1 ≤ d) (hd6 : d ≤ 6) (hi : i < 160) (hq : xbp (d - 1) = nI q) (hq2 : q < 160) (hk : xbk (d - 1) = nI 23) (he : xbh (d - 1) = nI e) (h : post (xle, xpe, nI cp, nI lm, sta, nI np, opn, nI nt, xch, xck, nI (d - 1), nI fr, nI sb, nI us, xcb, xcc, col, nI bo, nI oc, res, sm_n pm, sm_n vs, sm_n mk, sm_k gl, sm_n fi, sm_n tk, sm_n (sm_u xo i 26), sm_n (sm_ar tk), sm_n (sm_u (sm_u xj q (i + 1)) i e), sm_n ow, sm_n xh, sm_n xk, sm_n xl, xbk, xbp, xbh, sm_n fp, sm_n fa, sl, cn, cl, cr, sm_n cb, fw, ou)) : wpX_takeBlock post (xle, xpe, nI cp, nI lm, sta, nI np, opn, nI nt, xch, xck, nI d, nI fr, nI sb, nI us, xcb, xcc, col, nI bo, nI oc, res, sm_n pm, sm_n vs, sm_n mk, sm_k gl, sm_n fi, sm_n tk, sm_n xo, sm_n (sm_ar tk), sm_n xj, sm_n ow, sm_n xh, sm_n xk, sm_n xl, xbk, xbp, xbh, sm_n fp, sm_n fa, sl, cn, cl, cr, sm_n cb, fw, ou) (nI o) (nI i) := by
  refine pk_eq o 20 (fun z => absurd z (by omega)) (fun _ => pk_eq o 22 (fun z => absurd z (by omega)) (fun _ => pk_eq d 0 (fun z => absurd z (by omega)) (fun _ => nm_r (sm_sb1 hd1) (pk_eq o 21 (fun z => absurd z (by omega)) (fun _ => ?_)))))
  refine pk_eq o 21 (fun z => absurd z (by omega)) (fun _ => pk_eq o 23 (fun z => absurd z (by omega)) (fun _ => ?_))
  rw [nI_clamp (show d - 1 < 2 ^ 31 by omega), hq, nI_clamp (show q < 2 ^ 31 by omega), nI_1, hk, he, nI_clamp (show i < 2 ^ 31 by omega)]
  have v : vp_in (nI (d - 1)) 6 := vp_in_nI (by omega) (by decide)
  have vi : vp_in (nI i) 160 := vp_in_nI hi (by decide)
  exact ⟨v, vp_in_nI hq2 (by decide), nm_r (sm_nu xj q (i + 1)) ⟨v, br_t rfl ⟨vi, nm_r (sm_nu xo i 26) ⟨v, vi, nm_r (sm_nu _ i e) h⟩⟩⟩⟩
theorem sm_tb24b (ho : o = 24) (hd1 : 1 ≤ d) (hd6 : d ≤ 6) (hi : i < 160) (hq : xbp (d - 1) = nI q) (hq2 : q < 160) {k : Nat} (hk : xbk (d - 1) = nI k) (hk1 : k < 100) (hk2 : k ≠ 23) (h : post (xle, xpe, nI cp, nI lm, sta, nI np, opn, nI nt, xch, xck, nI (d - 1), nI fr, nI sb, nI us, xcb, xcc, col, nI bo, nI oc, res, sm_n pm, sm_n vs, sm_n mk, sm_k gl, sm_n fi, sm_n tk, sm_n xo, sm_n (sm_ar tk), sm_n (sm_u xj q (i + 1)), sm_n ow, sm_n xh, sm_n xk, sm_n xl, xbk, xbp, xbh, sm_n fp, sm_n fa, sl, cn, cl, cr, sm_n cb, fw, ou)) : wpX_takeBlock post (xle, xpe, nI cp, nI lm, sta, nI np, opn, nI nt, xch, xck, nI d, nI fr, nI sb, nI us, xcb, xcc, col, nI bo, nI oc, res, sm_n pm, sm_n vs, sm_n mk, sm_k gl, sm_n fi, sm_n tk, sm_n xo, sm_n (sm_ar tk), sm_n xj, sm_n ow, sm_n xh, sm_n xk, sm_n xl, xbk, xbp, xbh, sm_n fp, sm_n fa, sl, cn, cl, cr, sm_n cb, fw, ou) (nI o) (nI i) := by
  refine pk_eq o 20 (fun z => absurd z (by omega)) (fun _ => pk_eq o 22 (fun z => absurd z (by omega)) (fun _ => pk_eq d 0 (fun z => absurd z (by omega)) (fun _ => nm_r (sm_sb1 hd1) (pk_eq o 21 (fun z => absurd z (by omega)) (fun _ => ?_)))))
  refine pk_eq o 21 (fun z => absurd z (by omega)) (fun _ => pk_eq o 23 (fun z => absurd z (by omega)) (fun _ => ?_))
  rw [nI_clamp (show d - 1 < 2 ^ 31 by omega), hq, nI_clamp (show q < 2 ^ 31 by omega), nI_1, hk]
  have v : vp_in (nI (d - 1)) 6 := vp_in_nI (by omega) (by decide)
  exact ⟨v, vp_in_nI hq2 (by decide), nm_r (sm_nu xj q (i + 1)) ⟨v, pk_eq k 23 (fun z => absurd z hk2) (fun _ => h)⟩⟩
/-- up to the blocks -/
theorem sm_t158 {h k : Nat} (ht : t < 1000000) (o1 : 1 ≤ t % 100) (o2 : t % 100 ≤ 25) (hn : np ≤ 8) (hn1 : 1 ≤ np) (hnt : nt < 160) (h13 : t % 100 = 13 → t / 100 < np) (hmk : ∀ q, q < np → mk q < 256) (h3 : t % 100 = 3 → t / 100 < 8) (h8 : h ≤ 8) (hk : k < 2 ^ h) (hle : sm_pop pm t ≤ h)
    (hp : wX_take_158 post (nI (t % 100)) (nI nt) (nI (sm_h2 pm t h)) xle xpe (nI cp) (nI lm) sta (nI np) opn (nI (nt + 1)) (nI h) (nI (sm_k2 pm mk gl (np - 1) t h k)) xbc (nI fr) (nI sb) (nI us) xcb xcc col (nI bo) (nI oc) res (sm_n pm) (sm_n vs) (sm_n mk) (sm_k gl) (sm_n fi) (sm_n (sm_u tk nt t)) (sm_n (sm_u xo nt (t % 100))) (sm_n (sm_ar (sm_u tk nt t))) (sm_n (sm_u xj nt 0)) (sm_n (sm_u ow nt (np - 1))) (sm_n (sm_u xh nt h)) (sm_n (sm_u xk nt k)) (sm_n (sm_u xl nt 0)) xbk xbp xbh (sm_n fp) (sm_n fa) sl cn cl cr (sm_n cb) fw ou) :
    wpX_take post (xle, xpe, nI cp, nI lm, sta, nI np, opn, nI nt, nI h, nI k, xbc, nI fr, nI sb, nI us, xcb, xcc, col, nI bo, nI oc, res, sm_n pm, sm_n vs, sm_n mk, sm_k gl, sm_n fi, sm_n tk, sm_n xo, sm_n (sm_ar tk), sm_n xj, sm_n ow, sm_n xh, sm_n xk, sm_n xl, xbk, xbp, xbh, sm_n fp, sm_n fa, sl, cn, cl, cr, sm_n cb, fw, ou) (nI t) := by
  have v : vp_in (nI nt) 160 := vp_in_nI hnt (by decide)
  have c : (nI nt).toNatClampNeg = nt := nI_clamp (by omega)
  have k8 : k < 256 := Nat.lt_of_lt_of_le hk (sm_p8 h8)
  have er : nI h - nI (sm_pop pm t) = nI (h - sm_pop pm t) := pk_sub hle
  have em : nI k &&& ((1 : Int32) <<< (nI (h - sm_pop pm t) &&& 31) - 1) = nI (k % 2 ^ (h - sm_pop pm t)) := by rw [sm_msk (by omega), sm_and, Nat.and_two_pow_sub_one_eq_mod]
  refine And.intro sm_100 (nm_r (sm_rm (by omega)) (And.intro sm_100 (nm_r (sm_dv (by omega)) (And.intro v (nm_r (e' := sm_n (sm_u tk nt t)) (by rw [c]; exact sm_nu _ _ _) (And.intro v (nm_r (e' := sm_n (sm_u xo nt (t % 100))) (by rw [c]; exact sm_nu _ _ _) (And.intro v (nm_r (e' := sm_n (sm_ar (sm_u tk nt t))) (by rw [c, sm_nu, sm_aru]) (And.intro v (nm_r (e' := sm_n (sm_u xj nt 0)) (by rw [c]; exact sm_nu _ _ 0) (And.intro v (nm_r (e' := sm_n (sm_u ow nt (np - 1))) (by rw [c, sm_sb1 hn1]; exact sm_nu _ _ _) (And.intro v (nm_r (e' := sm_n (sm_u xh nt h)) (by rw [c]; exact sm_nu _ _ _) (And.intro v (nm_r (e' := sm_n (sm_u xk nt k)) (by rw [c]; exact sm_nu _ _ _) (And.intro v (nm_r (e' := sm_n (sm_u xl nt 0)) (by rw [c]; exact sm_nu _ _ 0) (nm_r (nI_1 nt) ?_))))))))))))))))))))
  refine sm_xpop ht o1 o2 hn h13 (nm_r er (nm_r em ?_))
  unfold sm_h2 sm_k2 at hp
  refine pk_lt 13 (t % 100) (fun z => ?_) (fun z => ?_)
  · rw [show sm_ps t = 0 from if_neg (by omega), if_neg (by omega), Nat.or_zero, Nat.add_zero] at hp
    exact hp
  · rw [show sm_ps t = 1 from if_pos z, if_pos z] at hp
    refine sm_xps ht o1 z hn hn1 h13 hmk h3 (nm_r (e' := nI (k % 2 ^ (h - sm_pop pm t) ||| (sm_pk mk gl (np - 1) t).toNat * 2 ^ (h - sm_pop pm t))) ?_ (nm_r (nI_1 _) hp))
    rw [sm_shl (by omega) ?_, sm_or]
    have b1 : (sm_pk mk gl (np - 1) t).toNat ≤ 1 := Bool.toNat_le _
    have b2 := sm_p8 (show h - sm_pop pm t ≤ 8 by omega)
    have := Nat.mul_le_mul b1 b2
    omega
end
end
section
/-! a token is taken: the component walks, the form stays -/
section
variable {xle xpe sta opn xch xck xbc xcb xcc col res yh yd : Int32} {cp lm np nt fr sb us bo oc : Nat} {pm vs mk fi tk xo xj ow xh xk xl fp fa fh cb : Nat → Nat} {gl : Nat → Bool} {xbk xbp xbh sl cn cl cr fw ou yt yb ys yr lo st he nu lf rg : Nat → Int32} {hh kk dp : Nat → Nat} {pt hd : Nat → Nat → Nat}
variable {t d' oN : Nat} {ptN hdN xj' : Nat → Nat}
theorem sm_tCn (hq : 1 ≤ dp nt → pt nt (dp nt - 1) ≠ nt)
    (c1 : t % 100 = 20 ∨ t % 100 = 22 → dp nt < 6 ∧ d' = dp nt + 1 ∧ ptN = sm_u (pt nt) (dp nt) nt ∧ hdN = sm_u (hd nt) (dp nt) nt)
    (c2 : t % 100 = 21 → 1 ≤ dp nt ∧ tk (pt nt (dp nt - 1)) = 20 ∧ d' = dp nt ∧ ptN = sm_u (pt nt) (dp nt - 1) nt ∧ hdN = hd nt)
    (c3 : t % 100 = 23 → 1 ≤ dp nt ∧ tk (pt nt (dp nt - 1)) = 22 ∧ d' = dp nt ∧ ptN = sm_u (pt nt) (dp nt - 1) nt ∧ hdN = hd nt)
    (c4 : t % 100 = 24 → (1 ≤ dp nt → tk (pt nt (dp nt - 1)) ≠ 22) ∧ d' = dp nt - 1 ∧ ptN = pt nt ∧ hdN = hd nt)
    (c5 : t % 100 < 20 ∨ 24 < t % 100 → d' = dp nt ∧ ptN = pt nt ∧ hdN = hd nt) :
    sm_tC (sm_u tk nt t) (sm_u dp (nt + 1) d') (sm_u pt (nt + 1) ptN) (sm_u hd (nt + 1) hdN) nt := by
  unfold sm_tC
  rw [sm_us, sm_us, sm_us, sm_us, sm_un (show nt ≠ nt + 1 by omega), sm_un (show nt ≠ nt + 1 by omega), sm_un (show nt ≠ nt + 1 by omega)]
  refine ⟨c1, fun z => ?_, fun z => ?_, fun z => ?_, c5⟩
  · have c := c2 z
    rw [sm_un (hq c.1)]; exact c
  · have c := c3 z
    rw [sm_un (hq c.1)]; exact c
  · have c := c4 z
    exact ⟨fun y => by rw [sm_un (hq y)]; exact c.1 y, c.2⟩
theorem sm_tDn (hq : 1 ≤ dp nt → pt nt (dp nt - 1) ≠ nt) (c1 : t % 100 ≠ 24 → oN = t % 100) (c2 : t % 100 = 24 → dp nt = 0 → oN = 27)
    (c3 : t % 100 = 24 → 1 ≤ dp nt → tk (pt nt (dp nt - 1)) = 23 → oN = 26 ∧ xj' nt = hd nt (dp nt - 1)) (c4 : t % 100 = 24 → 1 ≤ dp nt → tk (pt nt (dp nt - 1)) ≠ 23 → oN = 24) :
    sm_tD (sm_u tk nt t) (sm_u xo nt oN) xj' (sm_u dp (nt + 1) d') (sm_u pt (nt + 1) ptN) (sm_u hd (nt + 1) hdN) nt := by
  unfold sm_tD
  rw [sm_us, sm_us, sm_un (show nt ≠ nt + 1 by omega), sm_un (show nt ≠ nt + 1 by omega), sm_un (show nt ≠ nt + 1 by omega)]
  refine ⟨c1, c2, fun z y => ?_, fun z y => ?_⟩
  · rw [sm_un (hq y)]; exact c3 z y
  · rw [sm_un (hq y)]; exact c4 z y
/-- no patch -/
theorem sm_J1 (h : sm_PG opn np nt pm vs mk gl fi tk xo xj ow hh kk dp pt hd) (hk : ∀ l, l < dp nt → (l < d' ∧ ptN l = pt nt l) ∨ tk (pt nt l) = 22) :
    ∀ i, i < nt → (tk i % 100 = 20 ∨ tk i % 100 = 21 ∨ tk i % 100 = 23) → (∃ l, l < d' ∧ ptN l = i) ∨ (sm_u xj nt 0 i = xj i ∧ sm_cl tk xj dp pt nt i) ∨ (sm_sc dp pt i (dp nt - 1) nt ∧ 1 ≤ dp nt ∧ (t % 100 = 24 ∨ t % 100 = 21) ∧ sm_u xj nt 0 i = nt + 1) := by
  intro i hi h2
  rcases sm_PJ h hi h2 with ⟨l, l1, l2⟩ | z
  · rcases hk l l1 with y | y
    · exact Or.inl ⟨l, y.1, by rw [y.2]; exact l2⟩
    · rw [l2] at y; rw [y] at h2; exact absurd h2 (by decide)
  · exact Or.inr (Or.inl ⟨sm_un (by omega), z⟩)
/-- a patch at the last part of the inmost level -/
theorem sm_J2 (h : sm_PG opn np nt pm vs mk gl fi tk xo xj ow hh kk dp pt hd) (d1 : 1 ≤ dp nt) (ht : t % 100 = 24 ∨ t % 100 = 21) (hk : ∀ l, l < dp nt - 1 → l < d' ∧ ptN l = pt nt l) (hxq : xj' (pt nt (dp nt - 1)) = nt + 1) (hxn : ∀ i, i < nt → i ≠ pt nt (dp nt - 1) → xj' i = xj i) :
    ∀ i, i < nt → (tk i % 100 = 20 ∨ tk i % 100 = 21 ∨ tk i % 100 = 23) → (∃ l, l < d' ∧ ptN l = i) ∨ (xj' i = xj i ∧ sm_cl tk xj dp pt nt i) ∨ (sm_sc dp pt i (dp nt - 1) nt ∧ 1 ≤ dp nt ∧ (t % 100 = 24 ∨ t % 100 = 21) ∧ xj' i = nt + 1) := by
  intro i hi h2
  by_cases e : i = pt nt (dp nt - 1)
  · subst e
    exact Or.inr (Or.inr ⟨((sm_PP h (Nat.le_refl nt)).2 _ (by omega)).1, d1, ht, hxq⟩)
  · rcases sm_PJ h hi h2 with ⟨l, l1, l2⟩ | z
    · have : l ≠ dp nt - 1 := fun y => e (by rw [← l2, y])
      have y := hk l (by omega)
      exact Or.inl ⟨l, y.1, by rw [y.2]; exact l2⟩
    · exact Or.inr (Or.inl ⟨hxn i hi e, z⟩)
def sm_TR (np nt : Nat) (pm vs mk : Nat → Nat) (gl : Nat → Bool) (fi tk ow hh kk dp : Nat → Nat) (pt hd : Nat → Nat → Nat) (t : Nat) (opn opn' xbc' : Int32) (xo' xj' : Nat → Nat) (xbk' xbp' xbh' : Nat → Int32) : Prop :=
  ∃ (d' : Nat) (ptN hdN : Nat → Nat), sm_PG opn' np (nt + 1) pm vs mk gl fi (sm_u tk nt t) xo' xj' (sm_u ow nt (np - 1)) (sm_u hh (nt + 1) (sm_h2 pm t (hh nt))) (sm_u kk (nt + 1) (sm_k2 pm mk gl (np - 1) t (hh nt) (kk nt))) (sm_u dp (nt + 1) d') (sm_u pt (nt + 1) ptN) (sm_u hd (nt + 1) hdN) ∧
    sm_ED (nt + 1) (sm_u tk nt t) (sm_u hh (nt + 1) (sm_h2 pm t (hh nt))) (sm_u kk (nt + 1) (sm_k2 pm mk gl (np - 1) t (hh nt) (kk nt))) (sm_u dp (nt + 1) d') (sm_u pt (nt + 1) ptN) (sm_u hd (nt + 1) hdN) (nI (sm_h2 pm t (hh nt))) (nI (sm_k2 pm mk gl (np - 1) t (hh nt) (kk nt))) xbc' xbk' xbp' xbh' ∧ opn' = (if t = 24 ∧ dp nt = 0 then 0 else opn)
theorem sm_TRi {xbc' : Int32} {xbk' xbp' xbh' : Nat → Int32} {xo' : Nat → Nat} {opn' : Int32} (hPG : sm_PG opn' np (nt + 1) pm vs mk gl fi (sm_u tk nt t) xo' xj' (sm_u ow nt (np - 1)) (sm_u hh (nt + 1) (sm_h2 pm t (hh nt))) (sm_u kk (nt + 1) (sm_k2 pm mk gl (np - 1) t (hh nt) (kk nt))) (sm_u dp (nt + 1) d') (sm_u pt (nt + 1) ptN) (sm_u hd (nt + 1) hdN))
    (hc : xbc' = nI d') (hb : ∀ l, l < d' → ptN l ≤ nt ∧ xbk' l = nI (sm_u tk nt t (ptN l)) ∧ xbp' l = nI (ptN l) ∧ xbh' l = nI (hdN l)) (ho : opn' = (if t = 24 ∧ dp nt = 0 then 0 else opn)) : sm_TR np nt pm vs mk gl fi tk ow hh kk dp pt hd t opn opn' xbc' xo' xj' xbk' xbp' xbh' := by
  refine ⟨d', ptN, hdN, hPG, ⟨by rw [sm_us], by rw [sm_us], by rw [sm_us]; exact hc, ?_⟩, ho⟩
  rw [sm_us, sm_us, sm_us]
  exact fun l hl => (hb l hl).2
theorem sm_take (hP : sm_PG opn np nt pm vs mk gl fi tk xo xj ow hh kk dp pt hd) (hO : opn = 1) (hmk : ∀ q, q < 8 → mk q < 256) (hb : ∀ l, l < dp nt → xbk l = nI (tk (pt nt l)) ∧ xbp l = nI (pt nt l) ∧ xbh l = nI (hd nt l)) (hK : sm_TK np nt pm vs mk gl tk hh kk dp pt t) :
    ∃ (opn' xbc' : Int32) (xo' xj' : Nat → Nat) (xbk' xbp' xbh' : Nat → Int32), (∀ post : SX → Prop, post (xle, xpe, nI cp, nI lm, sta, nI np, opn', nI (nt + 1), nI (sm_h2 pm t (hh nt)), nI (sm_k2 pm mk gl (np - 1) t (hh nt) (kk nt)), xbc', nI fr, nI sb, nI us, xcb, xcc, col, nI bo, nI oc, res, sm_n pm, sm_n vs, sm_n mk, sm_k gl, sm_n fi, sm_n (sm_u tk nt t), sm_n xo', sm_n (sm_ar (sm_u tk nt t)), sm_n xj', sm_n (sm_u ow nt (np - 1)), sm_n (sm_u xh nt (hh nt)), sm_n (sm_u xk nt (kk nt)), sm_n (sm_u xl nt 0), xbk', xbp', xbh', sm_n fp, sm_n fa, sl, cn, cl, cr, sm_n cb, fw, ou) → wpX_take post (xle, xpe, nI cp, nI lm, sta, nI np, opn, nI nt, nI (hh nt), nI (kk nt), nI (dp nt), nI fr, nI sb, nI us, xcb, xcc, col, nI bo, nI oc, res, sm_n pm, sm_n vs, sm_n mk, sm_k gl, sm_n fi, sm_n tk, sm_n xo, sm_n (sm_ar tk), sm_n xj, sm_n ow, sm_n xh, sm_n xk, sm_n xl, xbk, xbp, xbh, sm_n fp, sm_n fa, sl, cn, cl, cr, sm_n cb, fw, ou) (nI t)) ∧ sm_TR np nt pm vs mk gl fi tk ow hh kk dp pt hd t opn opn' xbc' xo' xj' xbk' xbp' xbh' := by
  have n8 := hP.1.1
  have n1 : 1 ≤ np := by
    rcases hP.2.1 with z | z
    · rw [hO] at z; exact absurd z (by decide)
    · exact z.2
  obtain ⟨h8, hk⟩ := sm_PH hP (Nat.le_refl nt)
  obtain ⟨d6, hpp⟩ := sm_PP hP (Nat.le_refl nt)
  obtain ⟨⟨k1, k2, k3, k4⟩, k5, k6, k7, k8, k9, k10, k11⟩ := id hK
  have hv := (sm_PQ hP (show np - 1 < np by omega)).2.2.1
  have ht : t < 1000000 := by omega
  obtain ⟨b1, b2, b3, b4⟩ := k11
  obtain ⟨kd1, kd2, kd3⟩ := sm_kdb hP
  have hpn : ∀ l, l < dp nt → pt nt l < nt := fun l hl => (hpp l hl).1.1
  have hq : 1 ≤ dp nt → pt nt (dp nt - 1) ≠ nt := fun z => by have := hpn (dp nt - 1) (by omega); omega
  have hO1 : opn = 1 := hO
  have t24 : t = 24 ↔ t % 100 = 24 := by omega
  have X : ∀ post : SX → Prop, wX_take_158 post (nI (t % 100)) (nI nt) (nI (sm_h2 pm t (hh nt))) xle xpe (nI cp) (nI lm) sta (nI np) opn (nI (nt + 1)) (nI (hh nt)) (nI (sm_k2 pm mk gl (np - 1) t (hh nt) (kk nt))) (nI (dp nt)) (nI fr) (nI sb) (nI us) xcb xcc col (nI bo) (nI oc) res (sm_n pm) (sm_n vs) (sm_n mk) (sm_k gl) (sm_n fi) (sm_n (sm_u tk nt t)) (sm_n (sm_u xo nt (t % 100))) (sm_n (sm_ar (sm_u tk nt t))) (sm_n (sm_u xj nt 0)) (sm_n (sm_u ow nt (np - 1))) (sm_n (sm_u xh nt (hh nt))) (sm_n (sm_u xk nt (kk nt))) (sm_n (sm_u xl nt 0)) xbk xbp xbh (sm_n fp) (sm_n fa) sl cn cl cr (sm_n cb) fw ou → wpX_take post (xle, xpe, nI cp, nI lm, sta, nI np, opn, nI nt, nI (hh nt), nI (kk nt), nI (dp nt), nI fr, nI sb, nI us, xcb, xcc, col, nI bo, nI oc, res, sm_n pm, sm_n vs, sm_n mk, sm_k gl, sm_n fi, sm_n tk, sm_n xo, sm_n (sm_ar tk), sm_n xj, sm_n ow, sm_n xh, sm_n xk, sm_n xl, xbk, xbp, xbh, sm_n fp, sm_n fa, sl, cn, cl, cr, sm_n cb, fw, ou) (nI t) := fun post h =>
    sm_t158 ht k1 k2 n8 n1 k5 k7 (fun q hq => hmk q (by omega)) (fun z => by have := k6 (Or.inl z); omega) h8 hk k8.1 h
  have keep : ∀ l, l < dp nt → xbk l = nI (sm_u tk nt t (pt nt l)) ∧ xbp l = nI (pt nt l) ∧ xbh l = nI (hd nt l) := fun l hl => by
    rw [sm_un (by have := hpn l hl; omega)]; exact hb l hl
  have nop : ¬ (t % 100 = 24 ∧ dp nt = 0) → opn = (if t = 24 ∧ dp nt = 0 then 0 else opn) := fun z => (if_neg (by omega)).symm
  have hx24 : ∀ q, (20 ≤ tk q ∧ tk q ≤ 23) → ∀ i, tk i % 100 = 24 → i ≠ q := fun q hq i hi z => by rw [z] at hi; omega
  by_cases e1 : t % 100 = 20 ∨ t % 100 = 22
  · -- IF, WHILE
    refine ⟨opn, nI (dp nt + 1), sm_u xo nt (t % 100), sm_u xj nt 0, upd xbk (dp nt) (nI (t % 100)), upd xbp (dp nt) (nI nt), upd xbh (dp nt) (nI nt), fun post h => X post (pk_lt (t % 100) 20 (fun z => absurd z (by omega)) (fun _ => pk_lt 24 (t % 100) (fun z => absurd z (by omega)) (fun _ => sm_tb1 e1 (b1 e1) h))), ?_⟩
    refine sm_TRi (d' := dp nt + 1) (ptN := sm_u (pt nt) (dp nt) nt) (hdN := sm_u (hd nt) (dp nt) nt) (sm_ext hP n1 hO1 hK ?_ ?_ (fun i hi _ => sm_un (by omega)) (sm_J1 hP (fun l hl => Or.inl ⟨by omega, sm_un (by omega)⟩)) (fun _ => ⟨dp nt, by omega, sm_us⟩) (Or.inr ⟨hO1, by omega⟩)) rfl (fun l hl => ?_) (nop (by omega))
    · exact sm_tCn hq (fun _ => ⟨b1 e1, rfl, rfl, rfl⟩) (fun z => absurd z (by omega)) (fun z => absurd z (by omega)) (fun z => absurd z (by omega)) (fun z => absurd z (by omega))
    · exact sm_tDn hq (fun _ => rfl) (fun z => absurd z (by omega)) (fun z => absurd z (by omega)) (fun z => absurd z (by omega))
    · by_cases el : l = dp nt
      · subst el
        rw [sm_us, sm_us, sm_us, pk_us, pk_us, pk_us, show t % 100 = t by omega]
        exact ⟨by omega, rfl, rfl, rfl⟩
      · rw [sm_un el, sm_un el, pk_un el, pk_un el, pk_un el]
        exact ⟨by have := hpn l (by omega); omega, keep l (by omega)⟩
  by_cases e2 : t % 100 = 21
  · -- ELSE
    have d1 : 1 ≤ dp nt := by
      by_cases z : dp nt = 0
      · have := b2 e2; rw [kd2 z] at this; omega
      · omega
    have hkd : tk (pt nt (dp nt - 1)) = 20 := by rw [← kd3 (by omega)]; exact b2 e2
    have hq160 : pt nt (dp nt - 1) < 160 := by have := hpn (dp nt - 1) (by omega); omega
    refine ⟨opn, nI (dp nt), sm_u xo nt (t % 100), sm_u (sm_u xj nt 0) (pt nt (dp nt - 1)) (nt + 1), upd xbk (dp nt - 1) (nI (t % 100)), upd xbp (dp nt - 1) (nI nt), xbh, fun post h => X post (pk_lt (t % 100) 20 (fun z => absurd z (by omega)) (fun _ => pk_lt 24 (t % 100) (fun z => absurd z (by omega)) (fun _ => sm_tb21 e2 d1 d6 (hb _ (by omega)).2.1 hq160 h))), ?_⟩
    refine sm_TRi (d' := dp nt) (ptN := sm_u (pt nt) (dp nt - 1) nt) (hdN := hd nt) (sm_ext hP n1 hO1 hK ?_ ?_ (fun i hi z => ?_) (sm_J2 hP d1 (Or.inr e2) (fun l hl => ⟨by omega, sm_un (by omega)⟩) sm_us (fun i hi z => by rw [sm_un z, sm_un (by omega)])) (fun _ => ⟨dp nt - 1, by omega, sm_us⟩) (Or.inr ⟨hO1, by omega⟩)) rfl (fun l hl => ?_) (nop (by omega))
    · exact sm_tCn hq (fun z => absurd z (by omega)) (fun _ => ⟨d1, hkd, rfl, rfl, rfl⟩) (fun z => absurd z (by omega)) (fun z => absurd z (by omega)) (fun z => absurd z (by omega))
    · exact sm_tDn hq (fun _ => rfl) (fun z => absurd z (by omega)) (fun z => absurd z (by omega)) (fun z => absurd z (by omega))
    · rw [sm_un (hx24 _ (hpp _ (by omega)).2 i z), sm_un (by omega)]
    · by_cases el : l = dp nt - 1
      · subst el
        rw [sm_us, sm_us, pk_us, pk_us, show t % 100 = t by omega]
        exact ⟨by omega, rfl, rfl, (hb _ (by omega)).2.2⟩
      · rw [sm_un el, pk_un el, pk_un el]
        exact ⟨by have := hpn l (by omega); omega, keep l (by omega)⟩
  by_cases e3 : t % 100 = 23
  · -- DO
    have d1 : 1 ≤ dp nt := by
      by_cases z : dp nt = 0
      · have := b3 e3; rw [kd2 z] at this; omega
      · omega
    have hkd : tk (pt nt (dp nt - 1)) = 22 := by rw [← kd3 (by omega)]; exact b3 e3
    refine ⟨opn, nI (dp nt), sm_u xo nt (t % 100), sm_u xj nt 0, upd xbk (dp nt - 1) (nI (t % 100)), upd xbp (dp nt - 1) (nI nt), xbh, fun post h => X post (pk_lt (t % 100) 20 (fun z => absurd z (by omega)) (fun _ => pk_lt 24 (t % 100) (fun z => absurd z (by omega)) (fun _ => sm_tb23 e3 d1 d6 h))), ?_⟩
    refine sm_TRi (d' := dp nt) (ptN := sm_u (pt nt) (dp nt - 1) nt) (hdN := hd nt) (sm_ext hP n1 hO1 hK ?_ ?_ (fun i hi _ => sm_un (by omega)) (sm_J1 hP (fun l hl => ?_)) (fun _ => ⟨dp nt - 1, by omega, sm_us⟩) (Or.inr ⟨hO1, by omega⟩)) rfl (fun l hl => ?_) (nop (by omega))
    · exact sm_tCn hq (fun z => absurd z (by omega)) (fun z => absurd z (by omega)) (fun _ => ⟨d1, hkd, rfl, rfl, rfl⟩) (fun z => absurd z (by omega)) (fun z => absurd z (by omega))
    · exact sm_tDn hq (fun _ => rfl) (fun z => absurd z (by omega)) (fun z => absurd z (by omega)) (fun z => absurd z (by omega))
    · by_cases el : l = dp nt - 1
      · subst el; exact Or.inr hkd
      · exact Or.inl ⟨hl, sm_un el⟩
    · by_cases el : l = dp nt - 1
      · subst el
        rw [sm_us, sm_us, pk_us, pk_us, show t % 100 = t by omega]
        exact ⟨by omega, rfl, rfl, (hb _ (by omega)).2.2⟩
      · rw [sm_un el, pk_un el, pk_un el]
        exact ⟨by have := hpn l (by omega); omega, keep l (by omega)⟩
  by_cases e4 : t % 100 = 24
  · by_cases z0 : dp nt = 0
    · -- the procedure's END
      refine ⟨0, nI (dp nt), sm_u xo nt 27, sm_u xj nt 0, xbk, xbp, xbh, fun post h => X post (pk_lt (t % 100) 20 (fun z => absurd z (by omega)) (fun _ => pk_lt 24 (t % 100) (fun z => absurd z (by omega)) (fun _ => sm_tb0 e4 z0 k5 ?_))), ?_⟩
      · rw [sm_uuN]; exact h
      refine sm_TRi (d' := dp nt) (ptN := pt nt) (hdN := hd nt) (sm_ext hP n1 hO1 hK ?_ ?_ (fun i hi _ => sm_un (by omega)) (sm_J1 hP (fun l hl => absurd hl (by omega))) (fun z => absurd z (by omega)) (Or.inl ⟨rfl, e4, z0⟩)) rfl (fun l hl => absurd hl (by omega)) ?_
      · exact sm_tCn hq (fun z => absurd z (by omega)) (fun z => absurd z (by omega)) (fun z => absurd z (by omega)) (fun _ => ⟨fun z => absurd z (by omega), by omega, rfl, rfl⟩) (fun z => absurd z (by omega))
      · exact sm_tDn hq (fun z => absurd e4 z) (fun _ _ => rfl) (fun _ z => absurd z (by omega)) (fun _ z => absurd z (by omega))
      · exact (if_pos ⟨by omega, z0⟩).symm
    · have d1 : 1 ≤ dp nt := by omega
      have hq160 : pt nt (dp nt - 1) < 160 := by have := hpn (dp nt - 1) (by omega); omega
      have hn22 : tk (pt nt (dp nt - 1)) ≠ 22 := by rw [← kd3 (by omega)]; exact b4 e4
      have t4 := (hpp (dp nt - 1) (by omega)).2
      have bl := hb (dp nt - 1) (by omega)
      have hC : sm_tC (sm_u tk nt t) (sm_u dp (nt + 1) (dp nt - 1)) (sm_u pt (nt + 1) (pt nt)) (sm_u hd (nt + 1) (hd nt)) nt := sm_tCn hq (fun z => absurd z (by omega)) (fun z => absurd z (by omega)) (fun z => absurd z (by omega)) (fun _ => ⟨fun _ => hn22, rfl, rfl, rfl⟩) (fun z => absurd z (by omega))
      by_cases hkd : tk (pt nt (dp nt - 1)) = 23
      · refine ⟨opn, nI (dp nt - 1), sm_u xo nt 26, sm_u (sm_u (sm_u xj nt 0) (pt nt (dp nt - 1)) (nt + 1)) nt (hd nt (dp nt - 1)), xbk, xbp, xbh, fun post h => X post (pk_lt (t % 100) 20 (fun z => absurd z (by omega)) (fun _ => pk_lt 24 (t % 100) (fun z => absurd z (by omega)) (fun _ => sm_tb24a e4 d1 d6 k5 bl.2.1 hq160 (by rw [bl.1, hkd]) bl.2.2 ?_))), ?_⟩
        · rw [sm_uuN]; exact h
        refine sm_TRi (d' := dp nt - 1) (ptN := pt nt) (hdN := hd nt) (sm_ext hP n1 hO1 hK hC ?_ (fun i hi z => ?_) (sm_J2 hP d1 (Or.inl e4) (fun l hl => ⟨by omega, rfl⟩) (by rw [sm_un (hq d1), sm_us]) (fun i hi z => by rw [sm_un (by omega), sm_un z, sm_un (by omega)])) (fun z => absurd z (by omega)) (Or.inr ⟨hO1, by omega⟩)) rfl (fun l hl => ⟨by have := hpn l (by omega); omega, keep l (by omega)⟩) (nop (by omega))
        · exact sm_tDn hq (fun z => absurd e4 z) (fun _ z => absurd z z0) (fun _ _ _ => ⟨rfl, sm_us⟩) (fun _ _ z => absurd hkd z)
        · rw [sm_un (by omega), sm_un (hx24 _ t4 i z), sm_un (by omega)]
      · refine ⟨opn, nI (dp nt - 1), sm_u xo nt (t % 100), sm_u (sm_u xj nt 0) (pt nt (dp nt - 1)) (nt + 1), xbk, xbp, xbh, fun post h => X post (pk_lt (t % 100) 20 (fun z => absurd z (by omega)) (fun _ => pk_lt 24 (t % 100) (fun z => absurd z (by omega)) (fun _ => sm_tb24b e4 d1 d6 k5 bl.2.1 hq160 bl.1 (by omega) hkd h))), ?_⟩
        refine sm_TRi (d' := dp nt - 1) (ptN := pt nt) (hdN := hd nt) (sm_ext hP n1 hO1 hK hC ?_ (fun i hi z => ?_) (sm_J2 hP d1 (Or.inl e4) (fun l hl => ⟨by omega, rfl⟩) sm_us (fun i hi z => by rw [sm_un z, sm_un (by omega)])) (fun z => absurd z (by omega)) (Or.inr ⟨hO1, by omega⟩)) rfl (fun l hl => ⟨by have := hpn l (by omega); omega, keep l (by omega)⟩) (nop (by omega))
        · exact sm_tDn hq (fun z => absurd e4 z) (fun _ z => absurd z z0) (fun _ _ z => absurd z hkd) (fun _ _ _ => e4)
        · rw [sm_un (hx24 _ t4 i z), sm_un (by omega)]
  · -- the others
    refine ⟨opn, nI (dp nt), sm_u xo nt (t % 100), sm_u xj nt 0, xbk, xbp, xbh, fun post h => X post (pk_lt (t % 100) 20 (fun _ => h) (fun _ => pk_lt 24 (t % 100) (fun _ => h) (fun z => absurd z (by omega)))), ?_⟩
    refine sm_TRi (d' := dp nt) (ptN := pt nt) (hdN := hd nt) (sm_ext hP n1 hO1 hK ?_ ?_ (fun i hi _ => sm_un (by omega)) (sm_J1 hP (fun l hl => Or.inl ⟨hl, rfl⟩)) (fun z => absurd z (by omega)) (Or.inr ⟨hO1, by omega⟩)) rfl (fun l hl => ⟨by have := hpn l hl; omega, keep l hl⟩) (nop (by omega))
    · exact sm_tCn hq (fun z => absurd z (by omega)) (fun z => absurd z (by omega)) (fun z => absurd z (by omega)) (fun z => absurd z (by omega)) (fun _ => ⟨rfl, rfl, rfl⟩)
    · exact sm_tDn hq (fun _ => rfl) (fun z => absurd z (by omega)) (fun z => absurd z (by omega)) (fun z => absurd z (by omega))
end
end
section
/-! the relation -/
section
variable {xle xpe sta opn xch xck xbc xcb xcc col res yh yd : Int32} {cp lm np nt fr sb us bo oc : Nat} {pm vs mk fi tk xo xj ow xh xk xl fp fa fh cb : Nat → Nat} {gl : Nat → Bool} {xbk xbp xbh sl cn cl cr fw ou yt yb ys yr lo st he nu lf rg : Nat → Int32} {hh kk dp : Nat → Nat} {pt hd : Nat → Nat → Nat}
/-- a link: the component's address, the reference's birth -/
def sm_VR (us sb : Nat) (cb : Nat → Nat) (a b : Int32) : Prop := (a = 0 ∧ b = 0) ∨ ∃ c, c < us ∧ a = nI (sb + 1 + c) ∧ b = nI (cb (sb + 1 + c))
/-- the two heaps -/
def sm_HC (us sb bo : Nat) (cb : Nat → Nat) (cn cl cr he nu lf rg : Nat → Int32) (c : Nat) : Prop :=
  1 ≤ cb (sb + 1 + c) ∧ cb (sb + 1 + c) ≤ bo ∧ he (cb (sb + 1 + c)) ≠ 0 ∧ nu (cb (sb + 1 + c)) = cn (sb + 1 + c) ∧ sm_VR us sb cb (cl (sb + 1 + c)) (lf (cb (sb + 1 + c))) ∧ sm_VR us sb cb (cr (sb + 1 + c)) (rg (cb (sb + 1 + c)))
def sm_HP (cp us sb bo : Nat) (cb : Nat → Nat) (cn cl cr he nu lf rg : Nat → Int32) : Prop :=
  (2 ≤ cp ∧ cp ≤ 16 ∧ us ≤ cp ∧ bo ≤ 120 ∧ (sb = 0 ∨ sb = 16)) ∧ (∀ c, c < us → sm_HC us sb bo cb cn cl cr he nu lf rg c) ∧
  (∀ c d, c < us → d < us → cb (sb + 1 + c) = cb (sb + 1 + d) → c = d) ∧ (∀ b, 1 ≤ b → b ≤ bo → he b ≠ 0 → ∃ c, c < us ∧ cb (sb + 1 + c) = b)
/-- one value by its kind -/
def sm_VK (us sb : Nat) (cb : Nat → Nat) (k : Bool) (a b : Int32) : Prop := (k = false → a = b) ∧ (k = true → sm_VR us sb cb a b)
/-- a frame -/
def sm_FR (np nt fr us sb : Nat) (pm vs mk tk ow hh kk xl fp fa fh cb : Nat → Nat) (sl lo st : Nat → Int32) (f : Nat) : Prop :=
  (fp f < np ∧ fa f < nt ∧ ow (fa f) = fp f) ∧ (f + 1 = fr → fh f = hh (fa f)) ∧ (f + 1 < fr → tk (fa f) % 100 = 13 ∧ fh f + pm (tk (fa f) / 100) = hh (fa f) ∧ fp (f + 1) = tk (fa f) / 100) ∧
  (∀ v, v < vs (fp f) → ((mk (fp f)).testBit v = false → sl (f * 16 + v) = lo (f * 8 + v)) ∧ ((mk (fp f)).testBit v = true → (xl (fa f)).testBit v = true → sm_VR us sb cb (sl (f * 16 + v)) (lo (f * 8 + v)))) ∧
  (∀ j, j < fh f → sm_VK us sb cb ((kk (fa f)).testBit j) (sl (f * 16 + 8 + j)) (st (f * 8 + j)))
def sm_FS (np nt fr : Nat) (pm tk ow hh fp fa fh : Nat → Nat) (f : Nat) : Prop :=
  (fp f < np ∧ fa f < nt ∧ ow (fa f) = fp f) ∧ (f + 1 = fr → fh f = hh (fa f)) ∧ (f + 1 < fr → tk (fa f) % 100 = 13 ∧ fh f + pm (tk (fa f) / 100) = hh (fa f) ∧ fp (f + 1) = tk (fa f) / 100)
theorem sm_FSi {f : Nat} (h : sm_FR np nt fr us sb pm vs mk tk ow hh kk xl fp fa fh cb sl lo st f) : sm_FS np nt fr pm tk ow hh fp fa fh f := ⟨h.1, h.2.1, h.2.2.1⟩
def sm_RN (np nt fr us sb lm : Nat) (pm vs mk tk ow hh kk xl fp fa fh cb : Nat → Nat) (sl lo st : Nat → Int32) : Prop :=
  1 ≤ fr ∧ fr ≤ lm ∧ ∀ f, f < fr → sm_FR np nt fr us sb pm vs mk tk ow hh kk xl fp fa fh cb sl lo st f
def sm_REL (sta opn xch xck xbc : Int32) (cp lm np nt fr sb us bo oc : Nat) (pm vs mk fi tk xo xj ow xh xk xl fp fa fh cb : Nat → Nat) (gl : Nat → Bool) (xbk xbp xbh sl cn cl cr lo st he nu lf rg : Nat → Int32) (hh kk dp : Nat → Nat) (pt hd : Nat → Nat → Nat) : Prop :=
  (2 ≤ lm ∧ lm ≤ 8 ∧ oc ≤ 32) ∧ (∀ q, mk q < 256) ∧ sm_PG opn np nt pm vs mk gl fi tk xo xj ow hh kk dp pt hd ∧ (∀ i, i < nt → xh i = hh i ∧ xk i = kk i) ∧ sm_HP cp us sb bo cb cn cl cr he nu lf rg ∧
  (sta = 0 → (∀ i, i < nt → xl i = 0) ∧ (opn ≠ 0 → sm_ED nt tk hh kk dp pt hd xch xck xbc xbk xbp xbh)) ∧ (sta ≠ 0 → opn = 0 ∧ 1 ≤ np ∧ sm_LV nt tk xo xj xl) ∧
  (sta = 2 → sm_RN np nt fr us sb lm pm vs mk tk ow hh kk xl fp fa fh cb sl lo st)
/-- the relation -/
def i_Rel (_k : Nat) (u : SX) (v : SY) : Prop := ∃ (xle xpe sta opn xch xck xbc xcb xcc col res yh yd : Int32) (cp lm np nt fr sb us bo oc : Nat) (pm vs mk fi tk xo xj ow xh xk xl fp fa fh cb : Nat → Nat) (gl : Nat → Bool) (xbk xbp xbh sl cn cl cr fw ou yt yb ys yr lo st he nu lf rg : Nat → Int32) (hh kk dp : Nat → Nat) (pt hd : Nat → Nat → Nat), (u = (xle, xpe, nI cp, nI lm, sta, nI np, opn, nI nt, xch, xck, xbc, nI fr, nI sb, nI us, xcb, xcc, col, nI bo, nI oc, res, sm_n pm, sm_n vs, sm_n mk, sm_k gl, sm_n fi, sm_n tk, sm_n xo, sm_n (sm_ar tk), sm_n xj, sm_n ow, sm_n xh, sm_n xk, sm_n xl, xbk, xbp, xbh, sm_n fp, sm_n fa, sl, cn, cl, cr, sm_n cb, fw, ou) ∧ v = (nI cp, nI lm, sta, nI np, opn, nI nt, yh, yd, nI fr, nI bo, col, nI oc, res, sm_n tk, sm_n fi, sm_n pm, sm_n vs, sm_n mk, sm_k gl, yt, yb, ys, yr, sm_n fp, sm_n fa, sm_n fh, lo, st, he, nu, lf, rg, ou)) ∧ sm_REL sta opn xch xck xbc cp lm np nt fr sb us bo oc pm vs mk fi tk xo xj ow xh xk xl fp fa fh cb gl xbk xbp xbh sl cn cl cr lo st he nu lf rg hh kk dp pt hd
theorem sm_el {k : Nat} {u : SX} {v : SY} {P : SX → SY → Prop} (h : ∀ (xle xpe sta opn xch xck xbc xcb xcc col res yh yd : Int32) (cp lm np nt fr sb us bo oc : Nat) (pm vs mk fi tk xo xj ow xh xk xl fp fa fh cb : Nat → Nat) (gl : Nat → Bool) (xbk xbp xbh sl cn cl cr fw ou yt yb ys yr lo st he nu lf rg : Nat → Int32) (hh kk dp : Nat → Nat) (pt hd : Nat → Nat → Nat), sm_REL sta opn xch xck xbc cp lm np nt fr sb us bo oc pm vs mk fi tk xo xj ow xh xk xl fp fa fh cb gl xbk xbp xbh sl cn cl cr lo st he nu lf rg hh kk dp pt hd → P (xle, xpe, nI cp, nI lm, sta, nI np, opn, nI nt, xch, xck, xbc, nI fr, nI sb, nI us, xcb, xcc, col, nI bo, nI oc, res, sm_n pm, sm_n vs, sm_n mk, sm_k gl, sm_n fi, sm_n tk, sm_n xo, sm_n (sm_ar tk), sm_n xj, sm_n ow, sm_n xh, sm_n xk, sm_n xl, xbk, xbp, xbh, sm_n fp, sm_n fa, sl, cn, cl, cr, sm_n cb, fw, ou) (nI cp, nI lm, sta, nI np, opn, nI nt, yh, yd, nI fr, nI bo, col, nI oc, res, sm_n tk, sm_n fi, sm_n pm, sm_n vs, sm_n mk, sm_k gl, yt, yb, ys, yr, sm_n fp, sm_n fa, sm_n fh, lo, st, he, nu, lf, rg, ou)) (I : i_Rel k u v) : P u v :=
  Exists.elim I fun xle I => Exists.elim I fun xpe I => Exists.elim I fun sta I => Exists.elim I fun opn I => Exists.elim I fun xch I => Exists.elim I fun xck I => Exists.elim I fun xbc I => Exists.elim I fun xcb I => Exists.elim I fun xcc I => Exists.elim I fun col I => Exists.elim I fun res I => Exists.elim I fun yh I => Exists.elim I fun yd I => Exists.elim I fun cp I => Exists.elim I fun lm I => Exists.elim I fun np I => Exists.elim I fun nt I => Exists.elim I fun fr I => Exists.elim I fun sb I => Exists.elim I fun us I => Exists.elim I fun bo I => Exists.elim I fun oc I => Exists.elim I fun pm I => Exists.elim I fun vs I => Exists.elim I fun mk I => Exists.elim I fun fi I => Exists.elim I fun tk I => Exists.elim I fun xo I => Exists.elim I fun xj I => Exists.elim I fun ow I => Exists.elim I fun xh I => Exists.elim I fun xk I => Exists.elim I fun xl I => Exists.elim I fun fp I => Exists.elim I fun fa I => Exists.elim I fun fh I => Exists.elim I fun cb I => Exists.elim I fun gl I => Exists.elim I fun xbk I => Exists.elim I fun xbp I => Exists.elim I fun xbh I => Exists.elim I fun sl I => Exists.elim I fun cn I => Exists.elim I fun cl I => Exists.elim I fun cr I => Exists.elim I fun fw I => Exists.elim I fun ou I => Exists.elim I fun yt I => Exists.elim I fun yb I => Exists.elim I fun ys I => Exists.elim I fun yr I => Exists.elim I fun lo I => Exists.elim I fun st I => Exists.elim I fun he I => Exists.elim I fun nu I => Exists.elim I fun lf I => Exists.elim I fun rg I => Exists.elim I fun hh I => Exists.elim I fun kk I => Exists.elim I fun dp I => Exists.elim I fun pt I => Exists.elim I fun hd I => And.elim (fun e r => And.elim (fun e1 e2 => by subst e1; subst e2; exact h xle xpe sta opn xch xck xbc xcb xcc col res yh yd cp lm np nt fr sb us bo oc pm vs mk fi tk xo xj ow xh xk xl fp fa fh cb gl xbk xbp xbh sl cn cl cr fw ou yt yb ys yr lo st he nu lf rg hh kk dp pt hd r) e) I
theorem sm_in {k : Nat} (h : sm_REL sta opn xch xck xbc cp lm np nt fr sb us bo oc pm vs mk fi tk xo xj ow xh xk xl fp fa fh cb gl xbk xbp xbh sl cn cl cr lo st he nu lf rg hh kk dp pt hd) : i_Rel k (xle, xpe, nI cp, nI lm, sta, nI np, opn, nI nt, xch, xck, xbc, nI fr, nI sb, nI us, xcb, xcc, col, nI bo, nI oc, res, sm_n pm, sm_n vs, sm_n mk, sm_k gl, sm_n fi, sm_n tk, sm_n xo, sm_n (sm_ar tk), sm_n xj, sm_n ow, sm_n xh, sm_n xk, sm_n xl, xbk, xbp, xbh, sm_n fp, sm_n fa, sl, cn, cl, cr, sm_n cb, fw, ou) (nI cp, nI lm, sta, nI np, opn, nI nt, yh, yd, nI fr, nI bo, col, nI oc, res, sm_n tk, sm_n fi, sm_n pm, sm_n vs, sm_n mk, sm_k gl, yt, yb, ys, yr, sm_n fp, sm_n fa, sm_n fh, lo, st, he, nu, lf, rg, ou) := ⟨xle, xpe, sta, opn, xch, xck, xbc, xcb, xcc, col, res, yh, yd, cp, lm, np, nt, fr, sb, us, bo, oc, pm, vs, mk, fi, tk, xo, xj, ow, xh, xk, xl, fp, fa, fh, cb, gl, xbk, xbp, xbh, sl, cn, cl, cr, fw, ou, yt, yb, ys, yr, lo, st, he, nu, lf, rg, hh, kk, dp, pt, hd, ⟨rfl, rfl⟩, h⟩
theorem i_up {k : Nat} {u : SX} {v : SY} (h : i_Rel k u v) : i_Rel (k + 5) u v := h
end
end
section
/-! feed -/
section
variable {xle xpe sta opn xch xck xbc xcb xcc col res yh yd : Int32} {cp lm np nt fr sb us bo oc : Nat} {pm vs mk fi tk xo xj ow xh xk xl fp fa fh cb : Nat → Nat} {gl : Nat → Bool} {xbk xbp xbh sl cn cl cr fw ou yt yb ys yr lo st he nu lf rg : Nat → Int32} {hh kk dp : Nat → Nat} {pt hd : Nat → Nat → Nat}
variable {a b c d x : Int32} {tn k : Nat}
theorem sm_opn (h : sm_PG opn np nt pm vs mk gl fi tk xo xj ow hh kk dp pt hd) (ho : opn ≠ 0) : opn = 1 := by
  rcases h.2.1 with z | z
  · exact absurd z ho
  · exact z.1
/-- one token -/
theorem sm_f53 (ys yr : Nat → Int32) (R : sm_REL sta opn xch xck xbc cp lm np nt fr sb us bo oc pm vs mk fi tk xo xj ow xh xk xl fp fa fh cb gl xbk xbp xbh sl cn cl cr lo st he nu lf rg hh kk dp pt hd) (hs : sta = 0) :
    (∃ r, (∀ (post : Int32 → SX → Prop) (J : Int32 → Int32 → Int32 → Int32 → Int32 → Int32 → Int32 → Int32 → Int32 → Int32 → Int32 → Int32 → Int32 → Int32 → Int32 → Int32 → Int32 → Int32 → Int32 → Int32 → Int32 → Int32 → (Nat → Int32) → (Nat → Int32) → (Nat → Int32) → (Nat → Int32) → (Nat → Int32) → (Nat → Int32) → (Nat → Int32) → (Nat → Int32) → (Nat → Int32) → (Nat → Int32) → (Nat → Int32) → (Nat → Int32) → (Nat → Int32) → (Nat → Int32) → (Nat → Int32) → (Nat → Int32) → (Nat → Int32) → (Nat → Int32) → (Nat → Int32) → (Nat → Int32) → (Nat → Int32) → (Nat → Int32) → (Nat → Int32) → (Nat → Int32) → (Nat → Int32) → Prop), post r (xle, xpe, nI cp, nI lm, sta, nI np, opn, nI nt, xch, xck, xbc, nI fr, nI sb, nI us, xcb, xcc, col, nI bo, nI oc, res, sm_n pm, sm_n vs, sm_n mk, sm_k gl, sm_n fi, sm_n tk, sm_n xo, sm_n (sm_ar tk), sm_n xj, sm_n ow, sm_n xh, sm_n xk, sm_n xl, xbk, xbp, xbh, sm_n fp, sm_n fa, sl, cn, cl, cr, sm_n cb, fw, ou) → wX_feed_53 post J a b c d (nI tn) (nI k) x xle xpe (nI cp) (nI lm) sta (nI np) opn (nI nt) xch xck xbc (nI fr) (nI sb) (nI us) xcb xcc col (nI bo) (nI oc) res (sm_n pm) (sm_n vs) (sm_n mk) (sm_k gl) (sm_n fi) (sm_n tk) (sm_n xo) (sm_n (sm_ar tk)) (sm_n xj) (sm_n ow) (sm_n xh) (sm_n xk) (sm_n xl) xbk xbp xbh (sm_n fp) (sm_n fa) sl cn cl cr (sm_n cb) fw ou) ∧ (∀ (post : Int32 → SY → Prop) (J : Int32 → Int32 → Int32 → Int32 → Int32 → Int32 → Int32 → Int32 → Int32 → Int32 → Int32 → Int32 → Int32 → Int32 → Int32 → (Nat → Int32) → (Nat → Int32) → (Nat → Int32) → (Nat → Int32) → (Nat → Int32) → (Nat → Int32) → (Nat → Int32) → (Nat → Int32) → (Nat → Int32) → (Nat → Int32) → (Nat → Int32) → (Nat → Int32) → (Nat → Int32) → (Nat → Int32) → (Nat → Int32) → (Nat → Int32) → (Nat → Int32) → (Nat → Int32) → (Nat → Int32) → (Nat → Int32) → Prop), (∀ yh yd yt yb, post r (nI cp, nI lm, sta, nI np, opn, nI nt, yh, yd, nI fr, nI bo, col, nI oc, res, sm_n tk, sm_n fi, sm_n pm, sm_n vs, sm_n mk, sm_k gl, yt, yb, ys, yr, sm_n fp, sm_n fa, sm_n fh, lo, st, he, nu, lf, rg, ou)) → ∀ yh yd yt yb, wY_feed_53 post J a b c d (nI tn) (nI k) x (nI cp) (nI lm) sta (nI np) opn (nI nt) yh yd (nI fr) (nI bo) col (nI oc) res (sm_n tk) (sm_n fi) (sm_n pm) (sm_n vs) (sm_n mk) (sm_k gl) yt yb ys yr (sm_n fp) (sm_n fa) (sm_n fh) lo st he nu lf rg ou)) ∨
    (∃ (xle' xpe' sta' opn' xch' xck' xbc' xcb' xcc' col' res' : Int32) (cp' lm' np' nt' fr' sb' us' bo' oc' : Nat) (pm' vs' mk' fi' tk' xo' xj' ow' xh' xk' xl' fp' fa' fh' cb' : Nat → Nat) (gl' : Nat → Bool) (xbk' xbp' xbh' sl' cn' cl' cr' fw' ou' lo' st' he' nu' lf' rg' : Nat → Int32) (hh' kk' dp' : Nat → Nat) (pt' hd' : Nat → Nat → Nat), sm_REL sta' opn' xch' xck' xbc' cp' lm' np' nt' fr' sb' us' bo' oc' pm' vs' mk' fi' tk' xo' xj' ow' xh' xk' xl' fp' fa' fh' cb' gl' xbk' xbp' xbh' sl' cn' cl' cr' lo' st' he' nu' lf' rg' hh' kk' dp' pt' hd' ∧ sta' = 0 ∧ (∀ (post : Int32 → SX → Prop) (J : Int32 → Int32 → Int32 → Int32 → Int32 → Int32 → Int32 → Int32 → Int32 → Int32 → Int32 → Int32 → Int32 → Int32 → Int32 → Int32 → Int32 → Int32 → Int32 → Int32 → Int32 → Int32 → (Nat → Int32) → (Nat → Int32) → (Nat → Int32) → (Nat → Int32) → (Nat → Int32) → (Nat → Int32) → (Nat → Int32) → (Nat → Int32) → (Nat → Int32) → (Nat → Int32) → (Nat → Int32) → (Nat → Int32) → (Nat → Int32) → (Nat → Int32) → (Nat → Int32) → (Nat → Int32) → (Nat → Int32) → (Nat → Int32) → (Nat → Int32) → (Nat → Int32) → (Nat → Int32) → (Nat → Int32) → (Nat → Int32) → (Nat → Int32) → (Nat → Int32) → Prop), J (nI (tn + 1)) (nI (k + 1)) xle' xpe' (nI cp') (nI lm') sta' (nI np') opn' (nI nt') xch' xck' xbc' (nI fr') (nI sb') (nI us') xcb' xcc' col' (nI bo') (nI oc') res' (sm_n pm') (sm_n vs') (sm_n mk') (sm_k gl') (sm_n fi') (sm_n tk') (sm_n xo') (sm_n (sm_ar tk')) (sm_n xj') (sm_n ow') (sm_n xh') (sm_n xk') (sm_n xl') xbk' xbp' xbh' (sm_n fp') (sm_n fa') sl' cn' cl' cr' (sm_n cb') fw' ou' → wX_feed_53 post J a b c d (nI tn) (nI k) x xle xpe (nI cp) (nI lm) sta (nI np) opn (nI nt) xch xck xbc (nI fr) (nI sb) (nI us) xcb xcc col (nI bo) (nI oc) res (sm_n pm) (sm_n vs) (sm_n mk) (sm_k gl) (sm_n fi) (sm_n tk) (sm_n xo) (sm_n (sm_ar tk)) (sm_n xj) (sm_n ow) (sm_n xh) (sm_n xk) (sm_n xl) xbk xbp xbh (sm_n fp) (sm_n fa) sl cn cl cr (sm_n cb) fw ou) ∧ (∀ (post : Int32 → SY → Prop) (J : Int32 → Int32 → Int32 → Int32 → Int32 → Int32 → Int32 → Int32 → Int32 → Int32 → Int32 → Int32 → Int32 → Int32 → Int32 → (Nat → Int32) → (Nat → Int32) → (Nat → Int32) → (Nat → Int32) → (Nat → Int32) → (Nat → Int32) → (Nat → Int32) → (Nat → Int32) → (Nat → Int32) → (Nat → Int32) → (Nat → Int32) → (Nat → Int32) → (Nat → Int32) → (Nat → Int32) → (Nat → Int32) → (Nat → Int32) → (Nat → Int32) → (Nat → Int32) → (Nat → Int32) → (Nat → Int32) → Prop), (∀ yh' yd' yt' yb', J (nI (tn + 1)) (nI (k + 1)) (nI cp') (nI lm') sta' (nI np') opn' (nI nt') yh' yd' (nI fr') (nI bo') col' (nI oc') res' (sm_n tk') (sm_n fi') (sm_n pm') (sm_n vs') (sm_n mk') (sm_k gl') yt' yb' ys yr (sm_n fp') (sm_n fa') (sm_n fh') lo' st' he' nu' lf' rg' ou') → ∀ yh yd yt yb, wY_feed_53 post J a b c d (nI tn) (nI k) x (nI cp) (nI lm) sta (nI np) opn (nI nt) yh yd (nI fr) (nI bo) col (nI oc) res (sm_n tk) (sm_n fi) (sm_n pm) (sm_n vs) (sm_n mk) (sm_k gl) yt yb ys yr (sm_n fp) (sm_n fa) (sm_n fh) lo st he nu lf rg ou)) := by
  obtain ⟨⟨l1, l2, l3⟩, hmk, hP, hxx, hH, h0, h1, h2⟩ := R
  obtain ⟨hxl, hE⟩ := h0 hs
  by_cases hx : x = 0
  · exact Or.inl ⟨nI tn, fun post J h => br_t hx h, fun post J h _ _ _ _ => br_t hx (h _ _ _ _)⟩
  obtain ⟨r, hX, hY, r8, hr⟩ := sm_chk (xle := xle) (xpe := xpe) (cp := cp) (lm := lm) (sta := sta) (fr := fr) (sb := sb) (us := us) (xcb := xcb) (xcc := xcc) (col := col) (bo := bo) (oc := oc) (res := res) (xh := xh) (xk := xk) (xl := xl) (fp := fp) (fa := fa) (sl := sl) (cn := cn) (cl := cl) (cr := cr) (cb := cb) (fw := fw) (ou := ou) (ys := ys) (yr := yr) (fh := fh) (lo := lo) (st := st) (he := he) (nu := nu) (lf := lf) (rg := rg) hP (fun q _ => hmk q) hE x
  by_cases r0 : r = 0
  rotate_left
  · have hr0 : ¬ nI r = 0 := nI_ne0 (by omega) (by omega)
    exact Or.inl ⟨-((10 * nI r) + nI tn), fun post J h => br_f hx (hX _ (br_f hr0 h)), fun post J h yh yd yt yb => br_f hx (hY _ (fun yh yd yt yb _ => br_f hr0 (h _ _ _ _)) yh yd yt yb)⟩
  subst r0
  obtain ⟨ho, t, rfl, hK⟩ := hr rfl
  have ho1 := sm_opn hP ho
  obtain ⟨rfl, rfl, rfl, hb⟩ := hE ho
  obtain ⟨opn', xbc', xo', xj', xbk', xbp', xbh', hT, d', ptN, hdN, hPG, hED, hop⟩ := sm_take (xle := xle) (xpe := xpe) (cp := cp) (lm := lm) (sta := sta) (fr := fr) (sb := sb) (us := us) (xcb := xcb) (xcc := xcc) (col := col) (bo := bo) (oc := oc) (res := res) (xh := xh) (xk := xk) (xl := xl) (fp := fp) (fa := fa) (sl := sl) (cn := cn) (cl := cl) (cr := cr) (cb := cb) (fw := fw) (ou := ou) hP ho1 (fun q _ => hmk q) hb hK
  have hn160 := hK.2.1
  refine Or.inr ⟨xle, xpe, sta, opn', nI (sm_h2 pm t (hh nt)), nI (sm_k2 pm mk gl (np - 1) t (hh nt) (kk nt)), xbc', xcb, xcc, col, res, cp, lm, np, nt + 1, fr, sb, us, bo, oc, pm, vs, mk, fi, sm_u tk nt t, xo', xj', sm_u ow nt (np - 1), sm_u xh nt (hh nt), sm_u xk nt (kk nt), sm_u xl nt 0, fp, fa, fh, cb, gl, xbk', xbp', xbh', sl, cn, cl, cr, fw, ou, lo, st, he, nu, lf, rg, sm_u hh (nt + 1) (sm_h2 pm t (hh nt)), sm_u kk (nt + 1) (sm_k2 pm mk gl (np - 1) t (hh nt) (kk nt)), sm_u dp (nt + 1) d', sm_u pt (nt + 1) ptN, sm_u hd (nt + 1) hdN, ?_, hs, fun post J h => br_f hx (hX _ (br_t rfl (hT _ (nm_r (nI_1 tn) (nm_r (nI_1 k) h))))), fun post J h yh yd yt yb => br_f hx (hY _ (fun yh yd yt yb hyd => br_t rfl ?_) yh yd yt yb)⟩
  · refine ⟨⟨l1, l2, l3⟩, hmk, hPG, fun i hi => ?_, hH, fun _ => ⟨fun i hi => ?_, fun _ => hED⟩, fun z => absurd hs z, fun z => ?_⟩
    · by_cases e : i = nt
      · subst e
        rw [sm_us, sm_us, sm_un (by omega), sm_un (by omega)]
        exact ⟨rfl, rfl⟩
      · rw [sm_un e, sm_un e, sm_un (by omega), sm_un (by omega)]
        exact hxx i (by omega)
    · by_cases e : i = nt
      · subst e; rw [sm_us]
      · rw [sm_un e]; exact hxl i (by omega)
    · rw [hs] at z; exact absurd z (by decide)
  · have h := h yh yd yt yb
    have v : vp_in (nI nt) 160 := vp_in_nI hn160 (by decide)
    have k105 : ∀ o : Int32, o = opn' → wY_feed_105 post J a b c d (nI tn) (nI k) (nI t) (nI cp) (nI lm) sta (nI np) o (nI nt) yh yd (nI fr) (nI bo) col (nI oc) res (sm_n tk) (sm_n fi) (sm_n pm) (sm_n vs) (sm_n mk) (sm_k gl) yt yb ys yr (sm_n fp) (sm_n fa) (sm_n fh) lo st he nu lf rg ou := by
      intro o eo
      subst eo
      refine And.intro v (nm_r (e' := sm_n (sm_u tk nt t)) (by rw [nI_clamp (by omega)]; exact sm_nu _ _ _) (nm_r (nI_1 nt) (nm_r (nI_1 tn) (nm_r (nI_1 k) h))))
    have hd6 := (sm_PP hP (Nat.le_refl nt)).1
    rw [hyd rfl]
    have ht : t < 1000000 := by
      have := hK.1
      unfold sm_C1 at this
      omega
    refine pk_eq t 24 (fun e => pk_eq (dp nt) 0 (fun z => ?_) (fun z => ?_)) (fun e => ?_)
    · have : opn' = 0 := by rw [hop, if_pos ⟨e, z⟩]
      subst this
      rw [hyd rfl] at k105
      exact k105 0 rfl
    · have : opn' = opn := by rw [hop, if_neg (by omega)]
      rw [hyd rfl] at k105
      exact k105 opn this.symm
    · have : opn' = opn := by rw [hop, if_neg (by omega)]
      rw [hyd rfl] at k105
      exact k105 opn this.symm
/-- the four tokens -/
theorem sm_f16 (ys yr : Nat → Int32) : ∀ m k tn, k + m = 4 → ∀ (xle xpe sta opn xch xck xbc xcb xcc col res : Int32) (cp lm np nt fr sb us bo oc : Nat) (pm vs mk fi tk xo xj ow xh xk xl fp fa fh cb : Nat → Nat) (gl : Nat → Bool) (xbk xbp xbh sl cn cl cr fw ou lo st he nu lf rg : Nat → Int32) (hh kk dp : Nat → Nat) (pt hd : Nat → Nat → Nat), sm_REL sta opn xch xck xbc cp lm np nt fr sb us bo oc pm vs mk fi tk xo xj ow xh xk xl fp fa fh cb gl xbk xbp xbh sl cn cl cr lo st he nu lf rg hh kk dp pt hd → sta = 0 → ∃ r, ∃ (xle' xpe' sta' opn' xch' xck' xbc' xcb' xcc' col' res' : Int32) (cp' lm' np' nt' fr' sb' us' bo' oc' : Nat) (pm' vs' mk' fi' tk' xo' xj' ow' xh' xk' xl' fp' fa' fh' cb' : Nat → Nat) (gl' : Nat → Bool) (xbk' xbp' xbh' sl' cn' cl' cr' fw' ou' lo' st' he' nu' lf' rg' : Nat → Int32) (hh' kk' dp' : Nat → Nat) (pt' hd' : Nat → Nat → Nat), sm_REL sta' opn' xch' xck' xbc' cp' lm' np' nt' fr' sb' us' bo' oc' pm' vs' mk' fi' tk' xo' xj' ow' xh' xk' xl' fp' fa' fh' cb' gl' xbk' xbp' xbh' sl' cn' cl' cr' lo' st' he' nu' lf' rg' hh' kk' dp' pt' hd' ∧ (∀ post : Int32 → SX → Prop, post r (xle', xpe', nI cp', nI lm', sta', nI np', opn', nI nt', xch', xck', xbc', nI fr', nI sb', nI us', xcb', xcc', col', nI bo', nI oc', res', sm_n pm', sm_n vs', sm_n mk', sm_k gl', sm_n fi', sm_n tk', sm_n xo', sm_n (sm_ar tk'), sm_n xj', sm_n ow', sm_n xh', sm_n xk', sm_n xl', xbk', xbp', xbh', sm_n fp', sm_n fa', sl', cn', cl', cr', sm_n cb', fw', ou') → wX_feed_16 post a b c d (m + 1) (nI tn) (nI k) xle xpe (nI cp) (nI lm) sta (nI np) opn (nI nt) xch xck xbc (nI fr) (nI sb) (nI us) xcb xcc col (nI bo) (nI oc) res (sm_n pm) (sm_n vs) (sm_n mk) (sm_k gl) (sm_n fi) (sm_n tk) (sm_n xo) (sm_n (sm_ar tk)) (sm_n xj) (sm_n ow) (sm_n xh) (sm_n xk) (sm_n xl) xbk xbp xbh (sm_n fp) (sm_n fa) sl cn cl cr (sm_n cb) fw ou) ∧ (∀ post : Int32 → SY → Prop, (∀ yh' yd' yt' yb', post r (nI cp', nI lm', sta', nI np', opn', nI nt', yh', yd', nI fr', nI bo', col', nI oc', res', sm_n tk', sm_n fi', sm_n pm', sm_n vs', sm_n mk', sm_k gl', yt', yb', ys, yr, sm_n fp', sm_n fa', sm_n fh', lo', st', he', nu', lf', rg', ou')) → ∀ yh yd yt yb, wY_feed_16 post a b c d (m + 1) (nI tn) (nI k) (nI cp) (nI lm) sta (nI np) opn (nI nt) yh yd (nI fr) (nI bo) col (nI oc) res (sm_n tk) (sm_n fi) (sm_n pm) (sm_n vs) (sm_n mk) (sm_k gl) yt yb ys yr (sm_n fp) (sm_n fa) (sm_n fh) lo st he nu lf rg ou) := by
  intro m
  induction m with
  | zero =>
    intro k tn hk xle xpe sta opn xch xck xbc xcb xcc col res cp lm np nt fr sb us bo oc pm vs mk fi tk xo xj ow xh xk xl fp fa fh cb gl xbk xbp xbh sl cn cl cr fw ou lo st he nu lf rg hh kk dp pt hd R hs
    have e : ¬ k < 4 := by omega
    exact ⟨nI tn, xle, xpe, sta, opn, xch, xck, xbc, xcb, xcc, col, res, cp, lm, np, nt, fr, sb, us, bo, oc, pm, vs, mk, fi, tk, xo, xj, ow, xh, xk, xl, fp, fa, fh, cb, gl, xbk, xbp, xbh, sl, cn, cl, cr, fw, ou, lo, st, he, nu, lf, rg, hh, kk, dp, pt, hd, R, fun post h => br_t (nI_le (a := 4) (by omega) (by omega)) h, fun post h yh yd yt yb => br_t (nI_le (a := 4) (by omega) (by omega)) (h yh yd yt yb)⟩
  | succ m ih =>
    intro k tn hk xle xpe sta opn xch xck xbc xcb xcc col res cp lm np nt fr sb us bo oc pm vs mk fi tk xo xj ow xh xk xl fp fa fh cb gl xbk xbp xbh sl cn cl cr fw ou lo st he nu lf rg hh kk dp pt hd R hs
    have h4 : ¬ (4 : Int32) ≤ nI k := nI_ge (b := 4) (by omega) (by decide)
    have sel : ∃ x : Int32, (∀ (post : Int32 → SX → Prop) (J : Int32 → Int32 → Int32 → Int32 → Int32 → Int32 → Int32 → Int32 → Int32 → Int32 → Int32 → Int32 → Int32 → Int32 → Int32 → Int32 → Int32 → Int32 → Int32 → Int32 → Int32 → Int32 → (Nat → Int32) → (Nat → Int32) → (Nat → Int32) → (Nat → Int32) → (Nat → Int32) → (Nat → Int32) → (Nat → Int32) → (Nat → Int32) → (Nat → Int32) → (Nat → Int32) → (Nat → Int32) → (Nat → Int32) → (Nat → Int32) → (Nat → Int32) → (Nat → Int32) → (Nat → Int32) → (Nat → Int32) → (Nat → Int32) → (Nat → Int32) → (Nat → Int32) → (Nat → Int32) → (Nat → Int32) → (Nat → Int32) → (Nat → Int32) → (Nat → Int32) → Prop), wX_feed_53 post J a b c d (nI tn) (nI k) x xle xpe (nI cp) (nI lm) sta (nI np) opn (nI nt) xch xck xbc (nI fr) (nI sb) (nI us) xcb xcc col (nI bo) (nI oc) res (sm_n pm) (sm_n vs) (sm_n mk) (sm_k gl) (sm_n fi) (sm_n tk) (sm_n xo) (sm_n (sm_ar tk)) (sm_n xj) (sm_n ow) (sm_n xh) (sm_n xk) (sm_n xl) xbk xbp xbh (sm_n fp) (sm_n fa) sl cn cl cr (sm_n cb) fw ou → ((nI k = 0 → wX_feed_53 post J a b c d (nI tn) (nI k) a xle xpe (nI cp) (nI lm) sta (nI np) opn (nI nt) xch xck xbc (nI fr) (nI sb) (nI us) xcb xcc col (nI bo) (nI oc) res (sm_n pm) (sm_n vs) (sm_n mk) (sm_k gl) (sm_n fi) (sm_n tk) (sm_n xo) (sm_n (sm_ar tk)) (sm_n xj) (sm_n ow) (sm_n xh) (sm_n xk) (sm_n xl) xbk xbp xbh (sm_n fp) (sm_n fa) sl cn cl cr (sm_n cb) fw ou) ∧ (¬ nI k = 0 → ((nI k = 1 → wX_feed_53 post J a b c d (nI tn) (nI k) b xle xpe (nI cp) (nI lm) sta (nI np) opn (nI nt) xch xck xbc (nI fr) (nI sb) (nI us) xcb xcc col (nI bo) (nI oc) res (sm_n pm) (sm_n vs) (sm_n mk) (sm_k gl) (sm_n fi) (sm_n tk) (sm_n xo) (sm_n (sm_ar tk)) (sm_n xj) (sm_n ow) (sm_n xh) (sm_n xk) (sm_n xl) xbk xbp xbh (sm_n fp) (sm_n fa) sl cn cl cr (sm_n cb) fw ou) ∧ (¬ nI k = 1 → ((nI k = 2 → wX_feed_53 post J a b c d (nI tn) (nI k) c xle xpe (nI cp) (nI lm) sta (nI np) opn (nI nt) xch xck xbc (nI fr) (nI sb) (nI us) xcb xcc col (nI bo) (nI oc) res (sm_n pm) (sm_n vs) (sm_n mk) (sm_k gl) (sm_n fi) (sm_n tk) (sm_n xo) (sm_n (sm_ar tk)) (sm_n xj) (sm_n ow) (sm_n xh) (sm_n xk) (sm_n xl) xbk xbp xbh (sm_n fp) (sm_n fa) sl cn cl cr (sm_n cb) fw ou) ∧ (¬ nI k = 2 → wX_feed_53 post J a b c d (nI tn) (nI k) d xle xpe (nI cp) (nI lm) sta (nI np) opn (nI nt) xch xck xbc (nI fr) (nI sb) (nI us) xcb xcc col (nI bo) (nI oc) res (sm_n pm) (sm_n vs) (sm_n mk) (sm_k gl) (sm_n fi) (sm_n tk) (sm_n xo) (sm_n (sm_ar tk)) (sm_n xj) (sm_n ow) (sm_n xh) (sm_n xk) (sm_n xl) xbk xbp xbh (sm_n fp) (sm_n fa) sl cn cl cr (sm_n cb) fw ou))))))) ∧
        (∀ (post : Int32 → SY → Prop) (J : Int32 → Int32 → Int32 → Int32 → Int32 → Int32 → Int32 → Int32 → Int32 → Int32 → Int32 → Int32 → Int32 → Int32 → Int32 → (Nat → Int32) → (Nat → Int32) → (Nat → Int32) → (Nat → Int32) → (Nat → Int32) → (Nat → Int32) → (Nat → Int32) → (Nat → Int32) → (Nat → Int32) → (Nat → Int32) → (Nat → Int32) → (Nat → Int32) → (Nat → Int32) → (Nat → Int32) → (Nat → Int32) → (Nat → Int32) → (Nat → Int32) → (Nat → Int32) → (Nat → Int32) → (Nat → Int32) → Prop) (yh yd : Int32) (yt yb : Nat → Int32), wY_feed_53 post J a b c d (nI tn) (nI k) x (nI cp) (nI lm) sta (nI np) opn (nI nt) yh yd (nI fr) (nI bo) col (nI oc) res (sm_n tk) (sm_n fi) (sm_n pm) (sm_n vs) (sm_n mk) (sm_k gl) yt yb ys yr (sm_n fp) (sm_n fa) (sm_n fh) lo st he nu lf rg ou → ((nI k = 0 → wY_feed_53 post J a b c d (nI tn) (nI k) a (nI cp) (nI lm) sta (nI np) opn (nI nt) yh yd (nI fr) (nI bo) col (nI oc) res (sm_n tk) (sm_n fi) (sm_n pm) (sm_n vs) (sm_n mk) (sm_k gl) yt yb ys yr (sm_n fp) (sm_n fa) (sm_n fh) lo st he nu lf rg ou) ∧ (¬ nI k = 0 → ((nI k = 1 → wY_feed_53 post J a b c d (nI tn) (nI k) b (nI cp) (nI lm) sta (nI np) opn (nI nt) yh yd (nI fr) (nI bo) col (nI oc) res (sm_n tk) (sm_n fi) (sm_n pm) (sm_n vs) (sm_n mk) (sm_k gl) yt yb ys yr (sm_n fp) (sm_n fa) (sm_n fh) lo st he nu lf rg ou) ∧ (¬ nI k = 1 → ((nI k = 2 → wY_feed_53 post J a b c d (nI tn) (nI k) c (nI cp) (nI lm) sta (nI np) opn (nI nt) yh yd (nI fr) (nI bo) col (nI oc) res (sm_n tk) (sm_n fi) (sm_n pm) (sm_n vs) (sm_n mk) (sm_k gl) yt yb ys yr (sm_n fp) (sm_n fa) (sm_n fh) lo st he nu lf rg ou) ∧ (¬ nI k = 2 → wY_feed_53 post J a b c d (nI tn) (nI k) d (nI cp) (nI lm) sta (nI np) opn (nI nt) yh yd (nI fr) (nI bo) col (nI oc) res (sm_n tk) (sm_n fi) (sm_n pm) (sm_n vs) (sm_n mk) (sm_k gl) yt yb ys yr (sm_n fp) (sm_n fa) (sm_n fh) lo st he nu lf rg ou))))))) := by
      by_cases k0 : k = 0
      · exact ⟨a, fun post J h => pk_eq k 0 (fun _ => h) (fun z => absurd k0 z), fun post J _ _ _ _ h => pk_eq k 0 (fun _ => h) (fun z => absurd k0 z)⟩
      by_cases k1 : k = 1
      · exact ⟨b, fun post J h => pk_eq k 0 (fun z => absurd z k0) (fun _ => pk_eq k 1 (fun _ => h) (fun z => absurd k1 z)), fun post J _ _ _ _ h => pk_eq k 0 (fun z => absurd z k0) (fun _ => pk_eq k 1 (fun _ => h) (fun z => absurd k1 z))⟩
      by_cases k2 : k = 2
      · exact ⟨c, fun post J h => pk_eq k 0 (fun z => absurd z k0) (fun _ => pk_eq k 1 (fun z => absurd z k1) (fun _ => pk_eq k 2 (fun _ => h) (fun z => absurd k2 z))), fun post J _ _ _ _ h => pk_eq k 0 (fun z => absurd z k0) (fun _ => pk_eq k 1 (fun z => absurd z k1) (fun _ => pk_eq k 2 (fun _ => h) (fun z => absurd k2 z)))⟩
      · exact ⟨d, fun post J h => pk_eq k 0 (fun z => absurd z k0) (fun _ => pk_eq k 1 (fun z => absurd z k1) (fun _ => pk_eq k 2 (fun z => absurd z k2) (fun _ => h))), fun post J _ _ _ _ h => pk_eq k 0 (fun z => absurd z k0) (fun _ => pk_eq k 1 (fun z => absurd z k1) (fun _ => pk_eq k 2 (fun z => absurd z k2) (fun _ => h)))⟩
    obtain ⟨x, sX, sY⟩ := sel
    rcases sm_f53 (a := a) (b := b) (c := c) (d := d) (x := x) (tn := tn) (k := k) (xle := xle) (xpe := xpe) (xcb := xcb) (xcc := xcc) (col := col) (res := res) (fw := fw) (ou := ou) ys yr R hs with ⟨r, hX, hY⟩ | H
    · exact ⟨r, xle, xpe, sta, opn, xch, xck, xbc, xcb, xcc, col, res, cp, lm, np, nt, fr, sb, us, bo, oc, pm, vs, mk, fi, tk, xo, xj, ow, xh, xk, xl, fp, fa, fh, cb, gl, xbk, xbp, xbh, sl, cn, cl, cr, fw, ou, lo, st, he, nu, lf, rg, hh, kk, dp, pt, hd, R, fun post h => br_f h4 (sX post _ (hX post _ h)), fun post h yh yd yt yb => br_f h4 (sY post _ yh yd yt yb (hY post _ h yh yd yt yb))⟩
    · refine Exists.elim H fun xle2 H => Exists.elim H fun xpe2 H => Exists.elim H fun sta2 H => Exists.elim H fun opn2 H => Exists.elim H fun xch2 H => Exists.elim H fun xck2 H => Exists.elim H fun xbc2 H => Exists.elim H fun xcb2 H => Exists.elim H fun xcc2 H => Exists.elim H fun col2 H => Exists.elim H fun res2 H => Exists.elim H fun cp2 H => Exists.elim H fun lm2 H => Exists.elim H fun np2 H => Exists.elim H fun nt2 H => Exists.elim H fun fr2 H => Exists.elim H fun sb2 H => Exists.elim H fun us2 H => Exists.elim H fun bo2 H => Exists.elim H fun oc2 H => Exists.elim H fun pm2 H => Exists.elim H fun vs2 H => Exists.elim H fun mk2 H => Exists.elim H fun fi2 H => Exists.elim H fun tk2 H => Exists.elim H fun xo2 H => Exists.elim H fun xj2 H => Exists.elim H fun ow2 H => Exists.elim H fun xh2 H => Exists.elim H fun xk2 H => Exists.elim H fun xl2 H => Exists.elim H fun fp2 H => Exists.elim H fun fa2 H => Exists.elim H fun fh2 H => Exists.elim H fun cb2 H => Exists.elim H fun gl2 H => Exists.elim H fun xbk2 H => Exists.elim H fun xbp2 H => Exists.elim H fun xbh2 H => Exists.elim H fun sl2 H => Exists.elim H fun cn2 H => Exists.elim H fun cl2 H => Exists.elim H fun cr2 H => Exists.elim H fun fw2 H => Exists.elim H fun ou2 H => Exists.elim H fun lo2 H => Exists.elim H fun st2 H => Exists.elim H fun he2 H => Exists.elim H fun nu2 H => Exists.elim H fun lf2 H => Exists.elim H fun rg2 H => Exists.elim H fun hh2 H => Exists.elim H fun kk2 H => Exists.elim H fun dp2 H => Exists.elim H fun pt2 H => Exists.elim H fun hd2 H => ?_
      obtain ⟨R', hs', hX, hY⟩ := H
      obtain ⟨r, H⟩ := ih (k + 1) (tn + 1) (by omega) xle2 xpe2 sta2 opn2 xch2 xck2 xbc2 xcb2 xcc2 col2 res2 cp2 lm2 np2 nt2 fr2 sb2 us2 bo2 oc2 pm2 vs2 mk2 fi2 tk2 xo2 xj2 ow2 xh2 xk2 xl2 fp2 fa2 fh2 cb2 gl2 xbk2 xbp2 xbh2 sl2 cn2 cl2 cr2 fw2 ou2 lo2 st2 he2 nu2 lf2 rg2 hh2 kk2 dp2 pt2 hd2 R' hs'
      refine Exists.elim H fun xle3 H => Exists.elim H fun xpe3 H => Exists.elim H fun sta3 H => Exists.elim H fun opn3 H => Exists.elim H fun xch3 H => Exists.elim H fun xck3 H => Exists.elim H fun xbc3 H => Exists.elim H fun xcb3 H => Exists.elim H fun xcc3 H => Exists.elim H fun col3 H => Exists.elim H fun res3 H => Exists.elim H fun cp3 H => Exists.elim H fun lm3 H => Exists.elim H fun np3 H => Exists.elim H fun nt3 H => Exists.elim H fun fr3 H => Exists.elim H fun sb3 H => Exists.elim H fun us3 H => Exists.elim H fun bo3 H => Exists.elim H fun oc3 H => Exists.elim H fun pm3 H => Exists.elim H fun vs3 H => Exists.elim H fun mk3 H => Exists.elim H fun fi3 H => Exists.elim H fun tk3 H => Exists.elim H fun xo3 H => Exists.elim H fun xj3 H => Exists.elim H fun ow3 H => Exists.elim H fun xh3 H => Exists.elim H fun xk3 H => Exists.elim H fun xl3 H => Exists.elim H fun fp3 H => Exists.elim H fun fa3 H => Exists.elim H fun fh3 H => Exists.elim H fun cb3 H => Exists.elim H fun gl3 H => Exists.elim H fun xbk3 H => Exists.elim H fun xbp3 H => Exists.elim H fun xbh3 H => Exists.elim H fun sl3 H => Exists.elim H fun cn3 H => Exists.elim H fun cl3 H => Exists.elim H fun cr3 H => Exists.elim H fun fw3 H => Exists.elim H fun ou3 H => Exists.elim H fun lo3 H => Exists.elim H fun st3 H => Exists.elim H fun he3 H => Exists.elim H fun nu3 H => Exists.elim H fun lf3 H => Exists.elim H fun rg3 H => Exists.elim H fun hh3 H => Exists.elim H fun kk3 H => Exists.elim H fun dp3 H => Exists.elim H fun pt3 H => Exists.elim H fun hd3 H => ?_
      obtain ⟨R'', hX', hY'⟩ := H
      exact ⟨r, xle3, xpe3, sta3, opn3, xch3, xck3, xbc3, xcb3, xcc3, col3, res3, cp3, lm3, np3, nt3, fr3, sb3, us3, bo3, oc3, pm3, vs3, mk3, fi3, tk3, xo3, xj3, ow3, xh3, xk3, xl3, fp3, fa3, fh3, cb3, gl3, xbk3, xbp3, xbh3, sl3, cn3, cl3, cr3, fw3, ou3, lo3, st3, he3, nu3, lf3, rg3, hh3, kk3, dp3, pt3, hd3, R'', fun post h => br_f h4 (sX post _ (hX post _ (hX' post h))), fun post h yh yd yt yb => br_f h4 (sY post _ yh yd yt yb (hY post _ (fun yh yd yt yb => hY' post h yh yd yt yb) yh yd yt yb))⟩
end
end
section
/-! the component solves liveness -/
section
variable {xle xpe sta opn xch xck xbc xcb xcc col res yh yd : Int32} {cp lm np nt fr sb us bo oc : Nat} {pm vs mk fi tk xo xj ow xh xk xl fp fa fh cb : Nat → Nat} {gl : Nat → Bool} {xbk xbp xbh sl cn cl cr fw ou yt yb ys yr lo st he nu lf rg : Nat → Int32} {hh kk dp : Nat → Nat} {pt hd : Nat → Nat → Nat}
variable {i : Nat}
theorem sm_xla {post : Int32 → Prop} {k : Nat} (hk : k < 1000) (hn : nt ≤ 160) (h : post (nI (sm_la nt xl k))) : wpX_liveAt post (xle, xpe, nI cp, nI lm, sta, nI np, opn, nI nt, xch, xck, xbc, nI fr, nI sb, nI us, xcb, xcc, col, nI bo, nI oc, res, sm_n pm, sm_n vs, sm_n mk, sm_k gl, sm_n fi, sm_n tk, sm_n xo, sm_n (sm_ar tk), sm_n xj, sm_n ow, sm_n xh, sm_n xk, sm_n xl, xbk, xbp, xbh, sm_n fp, sm_n fa, sl, cn, cl, cr, sm_n cb, fw, ou) (nI k) := by
  unfold sm_la at h
  refine br_f (nI_pos (by omega)) (pk_le nt k (fun z => ?_) (fun z => ?_))
  · rw [if_neg (by omega)] at h; exact h
  · rw [if_pos z] at h
    rw [nI_clamp (by omega)]
    exact ⟨vp_in_nI (by omega) (by decide), h⟩
theorem sm_xlb {post : Int32 → Prop} (hP : sm_PG 0 np nt pm vs mk gl fi tk xo xj ow hh kk dp pt hd) (hx : ∀ i, i < nt → xl i < 256) (hi : i < nt) (h : post (nI (sm_lb nt tk xo xj xl i))) : wpX_liveBefore post (xle, xpe, nI cp, nI lm, sta, nI np, opn, nI nt, xch, xck, xbc, nI fr, nI sb, nI us, xcb, xcc, col, nI bo, nI oc, res, sm_n pm, sm_n vs, sm_n mk, sm_k gl, sm_n fi, sm_n tk, sm_n xo, sm_n (sm_ar tk), sm_n xj, sm_n ow, sm_n xh, sm_n xk, sm_n xl, xbk, xbp, xbh, sm_n fp, sm_n fa, sl, cn, cl, cr, sm_n cb, fw, ou) (nI i) := by
  have n160 := hP.1.2.1
  have v : vp_in (nI i) 160 := vp_in_nI (by omega) (by decide)
  have c : (nI i).toNatClampNeg = i := nI_clamp (by omega)
  obtain ⟨x1, x27⟩ := sm_xol hP hi
  have ob : xo i < 2 ^ 31 := by omega
  have hx14 : xo i = 14 → tk i % 100 = 14 := fun e => by
    obtain ⟨e1, e2⟩ := sm_xoe hP hi
    by_cases q : tk i % 100 = 24
    · rcases e2 q with z | z | z <;> omega
    · rw [← e1 q]; exact e
  have hx3 : xo i = 3 → tk i % 100 = 3 := fun e => by
    obtain ⟨e1, e2⟩ := sm_xoe hP hi
    by_cases q : tk i % 100 = 24
    · rcases e2 q with z | z | z <;> omega
    · rw [← e1 q]; exact e
  have k80 : ∀ s, s = sm_lb0 nt xo xj xl i → wX_liveBefore_80 post (nI i) (nI (xo i)) (nI s) xle xpe (nI cp) (nI lm) sta (nI np) opn (nI nt) xch xck xbc (nI fr) (nI sb) (nI us) xcb xcc col (nI bo) (nI oc) res (sm_n pm) (sm_n vs) (sm_n mk) (sm_k gl) (sm_n fi) (sm_n tk) (sm_n xo) (sm_n (sm_ar tk)) (sm_n xj) (sm_n ow) (sm_n xh) (sm_n xk) (sm_n xl) xbk xbp xbh (sm_n fp) (sm_n fa) sl cn cl cr (sm_n cb) fw ou := by
    intro s es
    subst es
    have hb := sm_lb0b (xo := xo) (xj := xj) hx i
    unfold sm_lb at h
    unfold wX_liveBefore_80
    rw [c, sm_nap, sm_arap]
    refine pk_eq (xo i) 14 (fun e => ?_) (fun e => pk_eq (xo i) 3 (fun e3 => ?_) (fun e3 => ?_))
    · have ha := sm_arv hP hi (Or.inr (hx14 e))
      rw [if_pos e, ← sm_clr _ hb _ ha] at h
      rw [sm_one (by omega)]
      exact ⟨v, nm_e h⟩
    · have ha := sm_arv hP hi (Or.inl (hx3 e3))
      rw [if_neg e, if_pos e3, ← sm_or] at h
      rw [sm_one (by omega)]
      exact ⟨v, nm_e h⟩
    · rw [if_neg e, if_neg e3] at h
      exact h
  have k43 : ∀ s, s = (if xo i = 25 ∨ xo i = 27 ∨ xo i = 21 ∨ xo i = 26 then 0 else sm_la nt xl (i + 1)) → wX_liveBefore_43 post (nI i) (nI (xo i)) (nI s) xle xpe (nI cp) (nI lm) sta (nI np) opn (nI nt) xch xck xbc (nI fr) (nI sb) (nI us) xcb xcc col (nI bo) (nI oc) res (sm_n pm) (sm_n vs) (sm_n mk) (sm_k gl) (sm_n fi) (sm_n tk) (sm_n xo) (sm_n (sm_ar tk)) (sm_n xj) (sm_n ow) (sm_n xh) (sm_n xk) (sm_n xl) xbk xbp xbh (sm_n fp) (sm_n fa) sl cn cl cr (sm_n cb) fw ou := by
    intro s es
    have k67 : xo i = 20 ∨ xo i = 23 ∨ xo i = 21 ∨ xo i = 26 → wX_liveBefore_67 post (nI i) (nI (xo i)) (nI s) xle xpe (nI cp) (nI lm) sta (nI np) opn (nI nt) xch xck xbc (nI fr) (nI sb) (nI us) xcb xcc col (nI bo) (nI oc) res (sm_n pm) (sm_n vs) (sm_n mk) (sm_k gl) (sm_n fi) (sm_n tk) (sm_n xo) (sm_n (sm_ar tk)) (sm_n xj) (sm_n ow) (sm_n xh) (sm_n xk) (sm_n xl) xbk xbp xbh (sm_n fp) (sm_n fa) sl cn cl cr (sm_n cb) fw ou := by
      intro e
      have hj : xj i < nt := by
        by_cases e26 : xo i = 26
        · have := (sm_loop hP hi e26).2.2.2.1
          omega
        · refine (sm_jmp hP hi ?_).1
          obtain ⟨e1, e2⟩ := sm_xoe hP hi
          by_cases q : tk i % 100 = 24
          · rcases e2 q with z | z | z <;> omega
          · rw [← e1 q]; omega
      unfold wX_liveBefore_67
      rw [c, sm_nap]
      refine And.intro v (sm_xla (by omega) n160 (nm_r (sm_or _ _) (k80 _ ?_)))
      unfold sm_lb0
      rw [if_pos e, es]
    refine pk_eq (xo i) 20 (fun e => k67 (by omega)) (fun e1 => pk_eq (xo i) 23 (fun e => k67 (by omega)) (fun e2 => pk_eq (xo i) 21 (fun e => k67 (by omega)) (fun e3 => pk_eq (xo i) 26 (fun e => k67 (by omega)) (fun e4 => k80 _ ?_))))
    unfold sm_lb0
    rw [if_neg (show ¬ (xo i = 20 ∨ xo i = 23 ∨ xo i = 21 ∨ xo i = 26) by omega), Nat.or_zero, es]
  refine And.intro v (nm_r (e' := nI (xo i)) (by rw [c, sm_nap]) ?_)
  have k0 : xo i = 25 ∨ xo i = 27 ∨ xo i = 21 ∨ xo i = 26 → wX_liveBefore_43 post (nI i) (nI (xo i)) (nI 0) xle xpe (nI cp) (nI lm) sta (nI np) opn (nI nt) xch xck xbc (nI fr) (nI sb) (nI us) xcb xcc col (nI bo) (nI oc) res (sm_n pm) (sm_n vs) (sm_n mk) (sm_k gl) (sm_n fi) (sm_n tk) (sm_n xo) (sm_n (sm_ar tk)) (sm_n xj) (sm_n ow) (sm_n xh) (sm_n xk) (sm_n xl) xbk xbp xbh (sm_n fp) (sm_n fa) sl cn cl cr (sm_n cb) fw ou := fun e => k43 0 (if_pos e).symm
  refine pk_eq (xo i) 25 (fun e => k0 (by omega)) (fun e1 => pk_eq (xo i) 27 (fun e => k0 (by omega)) (fun e2 => pk_eq (xo i) 21 (fun e => k0 (by omega)) (fun e3 => pk_eq (xo i) 26 (fun e => k0 (by omega)) (fun e4 => ?_))))
  rw [nI_1]
  refine sm_xla (by omega) n160 (nm_r (e' := nI (sm_la nt xl (i + 1))) ?_ (k43 _ ?_))
  · have := sm_or 0 (sm_la nt xl (i + 1))
    rw [Nat.zero_or] at this
    exact this
  · rw [if_neg (by omega)]
/-- bits only grow -/
def sm_le (xl xl' : Nat → Nat) : Prop := ∀ i v, v < 8 → (xl i).testBit v = true → (xl' i).testBit v = true
theorem sm_lcm {xl xl' : Nat → Nat} (h : sm_le xl xl') : sm_lc xl ≤ sm_lc xl' := sm_cnt_mono 1280 (fun m _ hm => h (m / 8) (m % 8) (by omega) hm)
theorem sm_lcl {xl xl' : Nat → Nat} (h : sm_le xl xl') {k v : Nat} (hk : k < 160) (hv : v < 8) (h1 : (xl k).testBit v = false) (h2 : (xl' k).testBit v = true) : sm_lc xl < sm_lc xl' := by
  refine sm_cnt_lt 1280 (fun m _ hm => h (m / 8) (m % 8) (by omega) hm) (k * 8 + v) (by omega) ?_ ?_
  · show (xl ((k * 8 + v) / 8)).testBit ((k * 8 + v) % 8) = false
    rw [show (k * 8 + v) / 8 = k by omega, show (k * 8 + v) % 8 = v by omega]; exact h1
  · show (xl' ((k * 8 + v) / 8)).testBit ((k * 8 + v) % 8) = true
    rw [show (k * 8 + v) / 8 = k by omega, show (k * 8 + v) % 8 = v by omega]; exact h2
theorem sm_up (h : sm_PG 0 np nt pm vs mk gl fi tk xo xj ow hh kk dp pt hd) {xl : Nat → Nat} (hq : sm_LQ nt tk xo xj xl) {k : Nat} (hk : k < nt) : sm_le xl (sm_u xl k (sm_lb nt tk xo xj xl k)) := by
  intro i v hv hb
  by_cases e : i = k
  · subst e; exact (sm_LQ_step h hq hk).2 i hk v hv hb
  · rw [sm_un e]; exact hb
theorem sm_diff {a b : Nat} (ha : a < 256) (hb : b < 256) (hs : ∀ v, v < 8 → a.testBit v = true → b.testBit v = true) (hn : b ≠ a) : ∃ v, v < 8 ∧ a.testBit v = false ∧ b.testBit v = true := by
  obtain ⟨v, hv⟩ := Nat.exists_testBit_ne_of_ne hn
  by_cases v8 : v < 8
  · refine ⟨v, v8, ?_, ?_⟩
    · cases e : a.testBit v
      · rfl
      · exact absurd (by rw [e, hs v v8 e]) hv
    · cases e : b.testBit v
      · cases e2 : a.testBit v
        · exact absurd (by rw [e, e2]) hv
        · rw [hs v v8 e2] at e; exact absurd e (by decide)
      · rfl
  · rw [sm_tz (n := 8) hb (by omega), sm_tz (n := 8) ha (by omega)] at hv
    exact absurd rfl hv
/-- one pass -/
theorem sm_x24 {post : SX → Prop} {J : Int32 → Int32 → (Nat → Int32) → (Nat → Int32) → (Nat → Int32) → (Nat → Int32) → (Nat → Int32) → (Nat → Int32) → (Nat → Int32) → (Nat → Int32) → (Nat → Int32) → (Nat → Int32) → (Nat → Int32) → (Nat → Int32) → (Nat → Int32) → (Nat → Int32) → (Nat → Int32) → (Nat → Int32) → (Nat → Int32) → (Nat → Int32) → (Nat → Int32) → (Nat → Int32) → (Nat → Int32) → (Nat → Int32) → (Nat → Int32) → (Nat → Int32) → (Nat → Int32) → Prop} {x2 : Int32} (hP : sm_PG 0 np nt pm vs mk gl fi tk xo xj ow hh kk dp pt hd) : ∀ m n xl x1, m ≤ nt → m < n → sm_LQ nt tk xo xj xl →
    (∀ xl' x1', sm_LQ nt tk xo xj xl' → sm_le xl xl' → ((x1' = x1 ∧ xl' = xl ∧ ∀ i, i < m → sm_lb nt tk xo xj xl i = xl i) ∨ (x1' = 1 ∧ sm_lc xl < sm_lc xl')) → J x1' (x2 + 1) (sm_n pm) (sm_n vs) (sm_n mk) (sm_k gl) (sm_n fi) (sm_n tk) (sm_n xo) (sm_n (sm_ar tk)) (sm_n xj) (sm_n ow) (sm_n xh) (sm_n xk) (sm_n xl') xbk xbp xbh (sm_n fp) (sm_n fa) sl cn cl cr (sm_n cb) fw ou) →
    wX_solveLiveness_24 post J x2 xle xpe (nI cp) (nI lm) sta (nI np) opn (nI nt) xch xck xbc (nI fr) (nI sb) (nI us) xcb xcc col (nI bo) (nI oc) res n x1 (nI m - 1) (sm_n pm) (sm_n vs) (sm_n mk) (sm_k gl) (sm_n fi) (sm_n tk) (sm_n xo) (sm_n (sm_ar tk)) (sm_n xj) (sm_n ow) (sm_n xh) (sm_n xk) (sm_n xl) xbk xbp xbh (sm_n fp) (sm_n fa) sl cn cl cr (sm_n cb) fw ou := by
  have n160 := hP.1.2.1
  intro m
  induction m with
  | zero =>
    intro n xl x1 _ hn hq hJ
    obtain ⟨n, rfl⟩ : ∃ n', n = n' + 1 := ⟨n - 1, by omega⟩
    exact br_t (by decide) (nm_e (hJ xl x1 hq (fun _ _ _ h => h) (Or.inl ⟨rfl, rfl, fun i hi => by omega⟩)))
  | succ m ih =>
    intro n xl x1 hm hn hq hJ
    obtain ⟨n, rfl⟩ : ∃ n', n = n' + 1 := ⟨n - 1, by omega⟩
    rw [nI_pred]
    have v : vp_in (nI m) 160 := vp_in_nI (by omega) (by decide)
    have c : (nI m).toNatClampNeg = m := nI_clamp (by omega)
    have em : nI m + (-1) = nI m - 1 := (Int32.sub_eq_add_neg _ _).symm
    have hlt := sm_lbb hP hq.1 (show m < nt by omega)
    have hxm := hq.1 m (by omega)
    refine br_f (nI_pos (by omega)) (sm_xlb hP hq.1 (by omega) ?_)
    rw [c, sm_nap]
    refine And.intro v (pk_eq (sm_lb nt tk xo xj xl m) (xl m) (fun e => nm_r em ?_) (fun e => ?_))
    · refine ih n xl x1 (by omega) (by omega) hq (fun xl' x1' q1 q2 q3 => hJ xl' x1' q1 q2 ?_)
      rcases q3 with ⟨z1, z2, z3⟩ | z
      · refine Or.inl ⟨z1, z2, fun i hi => ?_⟩
        by_cases ei : i = m
        · rw [ei]; exact e
        · exact z3 i (by omega)
      · exact Or.inr z
    · have hup := sm_up hP hq (show m < nt by omega)
      have hst := (sm_LQ_step hP hq (show m < nt by omega)).1
      obtain ⟨w, w8, wa, wb⟩ := sm_diff hxm hlt (fun v hv hb => hq.2.2 m (by omega) v hv hb) e
      have hl1 : sm_lc xl < sm_lc (sm_u xl m (sm_lb nt tk xo xj xl m)) := sm_lcl hup (show m < 160 by omega) w8 wa (by rw [sm_us]; exact wb)
      refine And.intro v (nm_r (sm_nu _ _ _) (nm_r em ?_))
      refine ih n (sm_u xl m (sm_lb nt tk xo xj xl m)) 1 (by omega) (by omega) hst (fun xl' x1' q1 q2 q3 => hJ xl' x1' q1 (fun i v hv hb => q2 i v hv (hup i v hv hb)) (Or.inr ?_))
      rcases q3 with ⟨z1, z2, _⟩ | z
      · exact ⟨z1, by rw [z2]; exact hl1⟩
      · exact ⟨z.1, by omega⟩
/-- all passes -/
theorem sm_x4 {post : SX → Prop} (hP : sm_PG 0 np nt pm vs mk gl fi tk xo xj ow hh kk dp pt hd) : ∀ n p xl x1, p ≤ 1281 → 1281 < n + p → sm_LQ nt tk xo xj xl → ((x1 = 0 ∧ ∀ i, i < nt → sm_lb nt tk xo xj xl i = xl i) ∨ (x1 = 1 ∧ p ≤ sm_lc xl)) →
    (∀ xl', sm_LV nt tk xo xj xl' → post (xle, xpe, nI cp, nI lm, sta, nI np, opn, nI nt, xch, xck, xbc, nI fr, nI sb, nI us, xcb, xcc, col, nI bo, nI oc, res, sm_n pm, sm_n vs, sm_n mk, sm_k gl, sm_n fi, sm_n tk, sm_n xo, sm_n (sm_ar tk), sm_n xj, sm_n ow, sm_n xh, sm_n xk, sm_n xl', xbk, xbp, xbh, sm_n fp, sm_n fa, sl, cn, cl, cr, sm_n cb, fw, ou)) → wX_solveLiveness_4 post xle xpe (nI cp) (nI lm) sta (nI np) opn (nI nt) xch xck xbc (nI fr) (nI sb) (nI us) xcb xcc col (nI bo) (nI oc) res n x1 (nI p) (sm_n pm) (sm_n vs) (sm_n mk) (sm_k gl) (sm_n fi) (sm_n tk) (sm_n xo) (sm_n (sm_ar tk)) (sm_n xj) (sm_n ow) (sm_n xh) (sm_n xk) (sm_n xl) xbk xbp xbh (sm_n fp) (sm_n fa) sl cn cl cr (sm_n cb) fw ou := by
  intro n
  induction n with
  | zero =>
    intro p xl x1 h0 h1
    omega
  | succ n ih =>
    intro p xl x1 h0 h1 hq h2 hpost
    have hle := sm_cnt_le (fun m => (xl (m / 8)).testBit (m % 8)) 1280
    rcases h2 with ⟨z1, z2⟩ | ⟨z1, z2⟩
    · exact br_t z1 (hpost xl (sm_LQ_fix hP hq z2))
    · have z2' := z2
      unfold sm_lc at z2'
      subst z1
      refine br_f sm_10 (pk_lt 1280 p (fun z => absurd z (by omega)) (fun _ => nm_e ⟨nt + 1, ?_⟩))
      refine sm_x24 hP nt (nt + 1) xl 0 (Nat.le_refl nt) (by omega) hq (fun xl' x1' q1 q2 q3 => ?_)
      rw [nI_1]
      refine ih (p + 1) xl' x1' (by omega) (by omega) q1 ?_ hpost
      rcases q3 with ⟨y1, y2, y3⟩ | ⟨y1, y2⟩
      · exact Or.inl ⟨y1, by rw [y2]; exact y3⟩
      · exact Or.inr ⟨y1, by omega⟩
theorem sm_xsl {post : SX → Prop} (hP : sm_PG 0 np nt pm vs mk gl fi tk xo xj ow hh kk dp pt hd) (hz : ∀ i, i < nt → xl i = 0) (hpost : ∀ xl', sm_LV nt tk xo xj xl' → post (xle, xpe, nI cp, nI lm, sta, nI np, opn, nI nt, xch, xck, xbc, nI fr, nI sb, nI us, xcb, xcc, col, nI bo, nI oc, res, sm_n pm, sm_n vs, sm_n mk, sm_k gl, sm_n fi, sm_n tk, sm_n xo, sm_n (sm_ar tk), sm_n xj, sm_n ow, sm_n xh, sm_n xk, sm_n xl', xbk, xbp, xbh, sm_n fp, sm_n fa, sl, cn, cl, cr, sm_n cb, fw, ou)) : wpX_solveLiveness post (xle, xpe, nI cp, nI lm, sta, nI np, opn, nI nt, xch, xck, xbc, nI fr, nI sb, nI us, xcb, xcc, col, nI bo, nI oc, res, sm_n pm, sm_n vs, sm_n mk, sm_k gl, sm_n fi, sm_n tk, sm_n xo, sm_n (sm_ar tk), sm_n xj, sm_n ow, sm_n xh, sm_n xk, sm_n xl, xbk, xbp, xbh, sm_n fp, sm_n fa, sl, cn, cl, cr, sm_n cb, fw, ou) := by
  have hq : sm_LQ nt tk xo xj xl := ⟨fun i hi => by rw [hz i hi]; decide, fun i hi v _ hb => by rw [hz i hi, Nat.zero_testBit] at hb; exact absurd hb (by decide), fun i hi v _ hb => by rw [hz i hi, Nat.zero_testBit] at hb; exact absurd hb (by decide)⟩
  exact ⟨1282, sm_x4 hP 1282 0 xl 1 (by omega) (by omega) hq (Or.inr ⟨rfl, Nat.zero_le _⟩) hpost⟩
end
end
section
/-! the reference's owner, opener, skip, successors -/
section
variable {xle xpe sta opn xch xck xbc xcb xcc col res yh yd : Int32} {cp lm np nt fr sb us bo oc : Nat} {pm vs mk fi tk xo xj ow xh xk xl fp fa fh cb : Nat → Nat} {gl : Nat → Bool} {xbk xbp xbh sl cn cl cr fw ou yt yb ys yr lo st he nu lf rg : Nat → Int32} {hh kk dp : Nat → Nat} {pt hd : Nat → Nat → Nat}
variable {i : Nat} {opq : Int32}
theorem sm_yow4 {post : Int32 → Prop} (hP : sm_PG opq np nt pm vs mk gl fi tk xo xj ow hh kk dp pt hd) (hi : i < nt) (h : post (nI (ow i))) : ∀ m p f, np - p < m → p ≤ np → (p ≤ ow i ∨ f = ow i) → wY_owner_4 post (nI i) (nI cp) (nI lm) sta (nI np) opn (nI nt) yh yd (nI fr) (nI bo) col (nI oc) res (sm_n tk) (sm_n fi) (sm_n pm) (sm_n vs) (sm_n mk) (sm_k gl) yt yb ys yr (sm_n fp) (sm_n fa) (sm_n fh) lo st he nu lf rg ou m (nI f) (nI p) := by
  have n8 := hP.1.1
  have n160 := hP.1.2.1
  obtain ⟨o1, o2, _⟩ := sm_PO hP hi
  have o3 := (sm_PA hP hi).2.2.2.2.2.2
  intro m
  induction m with
  | zero => intro p f h1; omega
  | succ m ih =>
    intro p f h1 h2 h3
    refine pk_le np p (fun z => ?_) (fun z => ?_)
    · rcases h3 with y | y
      · omega
      · rw [y]; exact h
    · rw [nI_clamp (show p < 2 ^ 31 by omega), sm_nap]
      have hf := (sm_PQ hP z).2.2.2.2.1
      refine And.intro (vp_in_nI (by omega) (by decide)) (pk_lt i (fi p) (fun y => nm_r (nI_1 p) (ih (p + 1) f (by omega) (by omega) ?_)) (fun y => nm_r (nI_1 p) (ih (p + 1) p (by omega) (by omega) ?_)))
      · rcases h3 with w | w
        · have : p ≠ ow i := fun q => by rw [q] at y; omega
          exact Or.inl (by omega)
        · exact Or.inr w
      · by_cases w : ow i < p
        · have := o2 p w z
          omega
        · by_cases w2 : p = ow i
          · exact Or.inr w2
          · exact Or.inl (by omega)
theorem sm_yow {post : Int32 → Prop} (hP : sm_PG opq np nt pm vs mk gl fi tk xo xj ow hh kk dp pt hd) (hi : i < nt) (h : post (nI (ow i))) : wpY_owner post (nI cp, nI lm, sta, nI np, opn, nI nt, yh, yd, nI fr, nI bo, col, nI oc, res, sm_n tk, sm_n fi, sm_n pm, sm_n vs, sm_n mk, sm_k gl, yt, yb, ys, yr, sm_n fp, sm_n fa, sm_n fh, lo, st, he, nu, lf, rg, ou) (nI i) :=
  ⟨np + 1, sm_yow4 hP hi h (np + 1) 0 0 (by omega) (by omega) (Or.inl (Nat.zero_le _))⟩
/-- the answer of opener -/
def sm_opv (dp : Nat → Nat) (hd : Nat → Nat → Nat) (i : Nat) : Int32 := if dp i = 0 then -1 else nI (hd i (dp i - 1))
theorem sm_yop13 {post : Int32 → Prop} (hP : sm_PG opq np nt pm vs mk gl fi tk xo xj ow hh kk dp pt hd) (hi : i < nt) (h : post (sm_opv dp hd i)) : ∀ m j, j ≤ i → fi (ow i) ≤ j → (1 ≤ dp i → hd i (dp i - 1) < j) → dp i ≤ dp j → j < m → wY_opener_13 post (nI (ow i)) (nI cp) (nI lm) sta (nI np) opn (nI nt) yh yd (nI fr) (nI bo) col (nI oc) res (sm_n tk) (sm_n fi) (sm_n pm) (sm_n vs) (sm_n mk) (sm_k gl) yt yb ys yr (sm_n fp) (sm_n fa) (sm_n fh) lo st he nu lf rg ou m (nI (dp j - dp i)) (nI j - 1) := by
  have n8 := hP.1.1
  have n160 := hP.1.2.1
  obtain ⟨o1, o2, _⟩ := sm_PO hP hi
  have o3 := (sm_PA hP hi).2.2.2.2.2.2
  have cw : (nI (ow i)).toNatClampNeg = ow i := nI_clamp (by omega)
  have vw : vp_in (nI (ow i)) 8 := vp_in_nI (by omega) (by decide)
  obtain ⟨_, _, _, _, _, dz, _⟩ := sm_PQ hP o3
  intro m
  induction m with
  | zero => intro j h1 h2 h3 h4 h5; omega
  | succ m ih =>
    intro j h1 h2 h3 h4 h5
    unfold wY_opener_13
    rw [cw, sm_nap]
    refine And.intro vw ?_
    by_cases e : j = fi (ow i)
    · have d0 : dp i = 0 := by rw [e, dz] at h4; omega
      have hlt : nI j - 1 < nI (fi (ow i)) := by
        rw [e]
        generalize fi (ow i) = q at *
        rw [Int32.lt_iff_toInt_lt, show (1 : Int32) = nI 1 from rfl, pk_sub_toInt (by omega) (by omega), nI_toInt (by omega)]
        omega
      refine br_t hlt ?_
      unfold sm_opv at h
      rw [if_pos d0] at h
      exact h
    · obtain ⟨j, rfl⟩ : ∃ q, j = q + 1 := ⟨j - 1, by omega⟩
      have hjn : j < nt := by omega
      have ha := sm_PA hP hjn
      have hc := sm_PC hP hjn
      have hd6 := (sm_PP hP (show j ≤ nt by omega)).1
      have hd6' := (sm_PP hP (show j + 1 ≤ nt by omega)).1
      have t6 := ha.2.2.1
      have t20 := sm_t20 hP hjn
      rw [nI_pred, nI_clamp (show j < 2 ^ 31 by omega), sm_nap]
      have v : vp_in (nI j) 160 := vp_in_nI (by omega) (by decide)
      have em : nI j + (-1) = nI j - 1 := (Int32.sub_eq_add_neg _ _).symm
      refine br_f (nI_nlt (by omega) (by omega)) (And.intro v ?_)
      have hlow : 1 ≤ dp i → hd i (dp i - 1) ≠ j → hd i (dp i - 1) < j := fun a b => by have := h3 a; omega
      have hs : 1 ≤ dp i → hd i (dp i - 1) < j → dp i ≤ dp j := fun a b => by
        have := (sm_PS hP (show i ≤ nt by omega) (show dp i - 1 < dp i by omega)).2.2.1 j b (by omega)
        omega
      have k39 : ∀ x, (tk j = 20 ∨ tk j = 22 → x = dp (j + 1) - dp i) → (¬ (tk j = 20 ∨ tk j = 22) → x = dp j - dp i ∧ dp i ≤ dp j) → wY_opener_39 post (wY_opener_13 post (nI (ow i)) (nI cp) (nI lm) sta (nI np) opn (nI nt) yh yd (nI fr) (nI bo) col (nI oc) res (sm_n tk) (sm_n fi) (sm_n pm) (sm_n vs) (sm_n mk) (sm_k gl) yt yb ys yr (sm_n fp) (sm_n fa) (sm_n fh) lo st he nu lf rg ou m) (nI (ow i)) (nI x) (nI j) (nI cp) (nI lm) sta (nI np) opn (nI nt) yh yd (nI fr) (nI bo) col (nI oc) res (sm_n tk) (sm_n fi) (sm_n pm) (sm_n vs) (sm_n mk) (sm_k gl) yt yb ys yr (sm_n fp) (sm_n fa) (sm_n fh) lo st he nu lf rg ou := by
        intro x hx1 hx2
        have k63 : tk j = 20 ∨ tk j = 22 → wY_opener_63 post (wY_opener_13 post (nI (ow i)) (nI cp) (nI lm) sta (nI np) opn (nI nt) yh yd (nI fr) (nI bo) col (nI oc) res (sm_n tk) (sm_n fi) (sm_n pm) (sm_n vs) (sm_n mk) (sm_k gl) yt yb ys yr (sm_n fp) (sm_n fa) (sm_n fh) lo st he nu lf rg ou m) (nI (ow i)) (nI x) (nI j) (nI cp) (nI lm) sta (nI np) opn (nI nt) yh yd (nI fr) (nI bo) col (nI oc) res (sm_n tk) (sm_n fi) (sm_n pm) (sm_n vs) (sm_n mk) (sm_k gl) yt yb ys yr (sm_n fp) (sm_n fa) (sm_n fh) lo st he nu lf rg ou := by
          intro e2
          have x1 := hx1 e2
          have c1 := hc.1 (by omega)
          refine pk_eq x 0 (fun x0 => ?_) (fun x0 => nm_r (sb_m1 (by omega)) (nm_r em ?_))
          · have d1 : 1 ≤ dp i := by omega
            have e5 : hd i (dp i - 1) = j := by
              by_cases e6 : hd i (dp i - 1) = j
              · exact e6
              · have := hs d1 (hlow d1 e6)
                omega
            unfold sm_opv at h
            rw [if_neg (by omega), e5] at h
            exact h
          · have hne : 1 ≤ dp i → hd i (dp i - 1) ≠ j := fun a b => by
              have := (sm_PS hP (show i ≤ nt by omega) (show dp i - 1 < dp i by omega)).2.1
              rw [b] at this
              omega
            have := ih j (by omega) (by omega) (fun a => hlow a (hne a)) (by omega) (by omega)
            rw [show dp j - dp i = x - 1 by omega] at this
            exact this
        unfold wY_opener_39
        rw [nI_clamp (show j < 2 ^ 31 by omega), sm_nap]
        refine And.intro v (pk_eq (tk j) 20 (fun e => k63 (Or.inl e)) (fun e20 => And.intro v (pk_eq (tk j) 22 (fun e => k63 (Or.inr e)) (fun e22 => nm_r em ?_))))
        obtain ⟨y1, y2⟩ := hx2 (by omega)
        have hne : 1 ≤ dp i → hd i (dp i - 1) ≠ j := fun a b => by
          have := (sm_PS hP (show i ≤ nt by omega) (show dp i - 1 < dp i by omega)).2.1
          rw [b] at this
          omega
        have := ih j (by omega) (by omega) (fun a => hlow a (hne a)) y2 (by omega)
        rw [← y1] at this
        exact this
      obtain ⟨c1, c2, c3, c4, c5⟩ := hc
      refine pk_eq (tk j) 24 (fun e24 => nm_r (nI_1 _) (k39 _ (fun z => by omega) (fun z => ?_))) (fun e24 => k39 _ (fun z => rfl) (fun z => ?_))
      · have c := (c4 (by omega)).2.1
        have hz : 1 ≤ dp j := by
          by_cases dj : dp j = 0
          · exact absurd ⟨by omega, dj⟩ ((sm_PO hP hi).2.2.2 j (by omega) (by omega))
          · omega
        exact ⟨by omega, by omega⟩
      · by_cases e21 : tk j % 100 = 21
        · have c := (c2 e21).2.2.1
          exact ⟨by omega, by omega⟩
        · by_cases e23 : tk j % 100 = 23
          · have c := (c3 e23).2.2.1
            exact ⟨by omega, by omega⟩
          · by_cases e5 : 20 ≤ tk j % 100 ∧ tk j % 100 ≤ 24
            · have := t20 (by omega)
              omega
            · have c := (c5 (by omega)).1
              exact ⟨by omega, by omega⟩
end
end
section
/-! the reference's skip, successors, safepoints -/
section
variable {xle xpe sta opn xch xck xbc xcb xcc col res yh yd : Int32} {cp lm np nt fr sb us bo oc : Nat} {pm vs mk fi tk xo xj ow xh xk xl fp fa fh cb : Nat → Nat} {gl : Nat → Bool} {xbk xbp xbh sl cn cl cr fw ou yt yb ys yr lo st he nu lf rg : Nat → Int32} {hh kk dp : Nat → Nat} {pt hd : Nat → Nat → Nat}
variable {i : Nat} {opq : Int32}
theorem sm_yop {post : Int32 → Prop} (hP : sm_PG opq np nt pm vs mk gl fi tk xo xj ow hh kk dp pt hd) (hi : i < nt) (h : post (sm_opv dp hd i)) : wpY_opener post (nI cp, nI lm, sta, nI np, opn, nI nt, yh, yd, nI fr, nI bo, col, nI oc, res, sm_n tk, sm_n fi, sm_n pm, sm_n vs, sm_n mk, sm_k gl, yt, yb, ys, yr, sm_n fp, sm_n fa, sm_n fh, lo, st, he, nu, lf, rg, ou) (nI i) := by
  have n160 := hP.1.2.1
  unfold wpY_opener
  dsimp only
  refine sm_yow hP hi (nm_e ⟨i + 1, ?_⟩)
  have e : (0 : Int32) = nI (dp i - dp i) := by rw [Nat.sub_self]; rfl
  rw [e]
  exact sm_yop13 hP hi h (i + 1) i (Nat.le_refl i) (sm_PO hP hi).1 (fun a => (sm_PS hP (show i ≤ nt by omega) (show dp i - 1 < dp i by omega)).1) (Nat.le_refl _) (by omega)
theorem sm_ysk6 {post : Int32 → Prop} (hP : sm_PG opq np nt pm vs mk gl fi tk xo xj ow hh kk dp pt hd) (hi : i < nt) {j : Nat} (j1 : j < nt) (j2 : 1 ≤ dp j) (js : sm_sc dp pt i (dp j - 1) j) (jt : tk j % 100 = 24 ∨ tk j % 100 = 21) (h : post (nI (j + 1))) :
    ∀ m k, i < k → k ≤ j → j - k < m → wY_skip_6 post (nI i) (nI cp) (nI lm) sta (nI np) opn (nI nt) yh yd (nI fr) (nI bo) col (nI oc) res (sm_n tk) (sm_n fi) (sm_n pm) (sm_n vs) (sm_n mk) (sm_k gl) yt yb ys yr (sm_n fp) (sm_n fa) (sm_n fh) lo st he nu lf rg ou m (nI (dp k - dp j)) (nI k) := by
  have n160 := hP.1.2.1
  obtain ⟨s1, s2, s3⟩ := js
  have vi : vp_in (nI i) 160 := vp_in_nI (by omega) (by decide)
  intro m
  induction m with
  | zero => intro k _ _ h1; omega
  | succ m ih =>
    intro k k1 k2 k3
    have hkn : k < nt := by omega
    have v : vp_in (nI k) 160 := vp_in_nI (by omega) (by decide)
    have c : (nI k).toNatClampNeg = k := nI_clamp (by omega)
    have t6 := (sm_PA hP hkn).2.2.1
    have ti6 := (sm_PA hP hi).2.2.1
    have t20 := sm_t20 hP hkn
    have dk := s3 k k1 k2
    obtain ⟨c1, c2, c3, c4, c5⟩ := sm_PC hP hkn
    have d6 := (sm_PP hP (show k ≤ nt by omega)).1
    have k55 : k < j → wY_skip_55 post (wY_skip_6 post (nI i) (nI cp) (nI lm) sta (nI np) opn (nI nt) yh yd (nI fr) (nI bo) col (nI oc) res (sm_n tk) (sm_n fi) (sm_n pm) (sm_n vs) (sm_n mk) (sm_k gl) yt yb ys yr (sm_n fp) (sm_n fa) (sm_n fh) lo st he nu lf rg ou m) (nI i) (nI (dp k - dp j)) (nI k) (nI cp) (nI lm) sta (nI np) opn (nI nt) yh yd (nI fr) (nI bo) col (nI oc) res (sm_n tk) (sm_n fi) (sm_n pm) (sm_n vs) (sm_n mk) (sm_k gl) yt yb ys yr (sm_n fp) (sm_n fa) (sm_n fh) lo st he nu lf rg ou := by
      intro kj
      have dk' := s3 (k + 1) (by omega) (by omega)
      have nxt := ih (k + 1) (by omega) (by omega) (by omega)
      have d6' := (sm_PP hP (show k + 1 ≤ nt by omega)).1
      have k80 : ∀ x, (tk k = 24 → x = dp k - dp j ∧ 1 ≤ x) → (tk k ≠ 24 → x = dp (k + 1) - dp j) → wY_skip_80 post (wY_skip_6 post (nI i) (nI cp) (nI lm) sta (nI np) opn (nI nt) yh yd (nI fr) (nI bo) col (nI oc) res (sm_n tk) (sm_n fi) (sm_n pm) (sm_n vs) (sm_n mk) (sm_k gl) yt yb ys yr (sm_n fp) (sm_n fa) (sm_n fh) lo st he nu lf rg ou m) (nI i) (nI x) (nI k) (nI cp) (nI lm) sta (nI np) opn (nI nt) yh yd (nI fr) (nI bo) col (nI oc) res (sm_n tk) (sm_n fi) (sm_n pm) (sm_n vs) (sm_n mk) (sm_k gl) yt yb ys yr (sm_n fp) (sm_n fa) (sm_n fh) lo st he nu lf rg ou := by
        intro x x1 x2
        unfold wY_skip_80
        rw [c, sm_nap]
        refine And.intro v (pk_eq (tk k) 24 (fun e => nm_r (sb_m1 (x1 e).2) (nm_r (nI_1 k) ?_)) (fun e => nm_r (nI_1 k) ?_))
        · have := (c4 (by omega)).2.1
          have := x1 e
          rw [show x - 1 = dp (k + 1) - dp j by omega]
          exact nxt
        · rw [x2 e]
          exact nxt
      have k77 : tk k = 20 ∨ tk k = 22 → wY_skip_77 post (wY_skip_6 post (nI i) (nI cp) (nI lm) sta (nI np) opn (nI nt) yh yd (nI fr) (nI bo) col (nI oc) res (sm_n tk) (sm_n fi) (sm_n pm) (sm_n vs) (sm_n mk) (sm_k gl) yt yb ys yr (sm_n fp) (sm_n fa) (sm_n fh) lo st he nu lf rg ou m) (nI i) (nI (dp k - dp j)) (nI k) (nI cp) (nI lm) sta (nI np) opn (nI nt) yh yd (nI fr) (nI bo) col (nI oc) res (sm_n tk) (sm_n fi) (sm_n pm) (sm_n vs) (sm_n mk) (sm_k gl) yt yb ys yr (sm_n fp) (sm_n fa) (sm_n fh) lo st he nu lf rg ou := fun e => nm_r (nI_1 _) (k80 _ (fun z => by omega) (fun _ => by have := (c1 (by omega)).2.1; omega))
      unfold wY_skip_55
      rw [c, sm_nap]
      refine And.intro v (pk_eq (tk k) 20 (fun e => k77 (Or.inl e)) (fun e20 => And.intro v (pk_eq (tk k) 22 (fun e => k77 (Or.inr e)) (fun e22 => k80 _ (fun e => ?_) (fun e => ?_)))))
      · have := (c4 (by omega)).2.1
        exact ⟨rfl, by omega⟩
      · by_cases e21 : tk k % 100 = 21
        · have := (c2 e21).2.2.1; omega
        · by_cases e23 : tk k % 100 = 23
          · have := (c3 e23).2.2.1; omega
          · by_cases e5 : 20 ≤ tk k % 100 ∧ tk k % 100 ≤ 24
            · have := t20 (by omega); omega
            · have := (c5 (by omega)).1; omega
    refine pk_le nt k (fun z => absurd z (by omega)) (fun _ => ?_)
    rw [c, sm_nap, nI_clamp (show i < 2 ^ 31 by omega), sm_nap]
    refine pk_eq (dp k - dp j) 0 (fun e0 => ?_) (fun e0 => k55 ?_)
    · have ed : dp k = dp j := by omega
      by_cases kj : k = j
      · subst kj
        refine And.intro v (pk_eq (tk k) 24 (fun e => by rw [nI_1]; exact h) (fun e => And.intro v (pk_eq (tk k) 21 (fun e2 => And.intro vi (pk_eq (tk i) 20 (fun e3 => by rw [nI_1]; exact h) (fun e3 => ?_))) (fun e2 => ?_))))
        · have := (c2 (by omega)).2.1
          rw [dk.2] at this
          exact absurd this e3
        · have := t20 (by omega)
          omega
      · have dk' := s3 (k + 1) (by omega) (by omega)
        refine And.intro v (pk_eq (tk k) 24 (fun e => ?_) (fun e => And.intro v (pk_eq (tk k) 21 (fun e2 => And.intro vi (pk_eq (tk i) 20 (fun e3 => ?_) (fun e3 => k55 (by omega)))) (fun e2 => k55 (by omega)))))
        · have := (c4 (by omega)).2.1
          omega
        · have c := (c2 (by omega)).2.2.2.1
          have d := dk'.2
          rw [c, ed, sm_us] at d
          omega
    · by_cases kj : k = j
      · subst kj; omega
      · omega
theorem sm_ysk {post : Int32 → Prop} (hP : sm_PG 0 np nt pm vs mk gl fi tk xo xj ow hh kk dp pt hd) (hi : i < nt) (ht : tk i % 100 = 20 ∨ tk i % 100 = 21 ∨ tk i % 100 = 23) (h : post (nI (xj i))) : wpY_skip post (nI cp, nI lm, sta, nI np, opn, nI nt, yh, yd, nI fr, nI bo, col, nI oc, res, sm_n tk, sm_n fi, sm_n pm, sm_n vs, sm_n mk, sm_k gl, yt, yb, ys, yr, sm_n fp, sm_n fa, sm_n fh, lo, st, he, nu, lf, rg, ou) (nI i) := by
  obtain ⟨j, j1, j2, j3, j4, j5⟩ := sm_cls hP hi ht
  rw [j5] at h
  have e : dp (i + 1) - dp j = 0 := by
    have := j3.2.1
    omega
  refine nm_r (nI_1 i) ⟨j + 1, ?_⟩
  have e' : (0 : Int32) = nI (dp (i + 1) - dp j) := by rw [e]; rfl
  rw [e']
  exact sm_ysk6 hP hi j1 j2 j3 j4 h (j + 1) (i + 1) (by omega) (by have := j3.1; omega) (by omega)
def sm_oI (x : Option Nat) : Int32 := match x with
  | none => -1
  | some s => nI s
/-- the ops by the tokens -/
theorem sm_end (hP : sm_PG opq np nt pm vs mk gl fi tk xo xj ow hh kk dp pt hd) (hi : i < nt) (e : tk i = 24) : (dp i = 0 ∧ xo i = 27 ∧ sm_opv dp hd i = -1) ∨ (1 ≤ dp i ∧ hd i (dp i - 1) < nt ∧ sm_opv dp hd i = nI (hd i (dp i - 1)) ∧ ((tk (hd i (dp i - 1)) = 22 ∧ xo i = 26 ∧ xj i = hd i (dp i - 1)) ∨ (tk (hd i (dp i - 1)) = 20 ∧ xo i = 24))) := by
  obtain ⟨d1, d2, d3, d4⟩ := sm_PD hP hi
  by_cases z : dp i = 0
  · exact Or.inl ⟨z, d2 (by omega) z, if_pos z⟩
  · have hl : dp i - 1 < dp i := by omega
    obtain ⟨g1, g2, g3, g4, g5⟩ := sm_PS hP (show i ≤ nt by omega) hl
    have hp := ((sm_PP hP (show i ≤ nt by omega)).2 _ hl).2
    have hn := ((sm_PC hP hi).2.2.2.1 (by omega)).1 (by omega)
    refine Or.inr ⟨by omega, by omega, if_neg z, ?_⟩
    by_cases k : tk (pt i (dp i - 1)) = 23
    · have := d3 (by omega) (by omega) k
      exact Or.inl ⟨g5 (Or.inr k), this.1, this.2⟩
    · exact Or.inr ⟨g4 (by omega), d4 (by omega) (by omega) k⟩
theorem sm_ysu {post : Int32 → Prop} (hP : sm_PG 0 np nt pm vs mk gl fi tk xo xj ow hh kk dp pt hd) (hi : i < nt) (h : post (sm_oI (sm_s1 xo xj i))) : wpY_successor post (nI cp, nI lm, sta, nI np, opn, nI nt, yh, yd, nI fr, nI bo, col, nI oc, res, sm_n tk, sm_n fi, sm_n pm, sm_n vs, sm_n mk, sm_k gl, yt, yb, ys, yr, sm_n fp, sm_n fa, sm_n fh, lo, st, he, nu, lf, rg, ou) (nI i) := by
  have n160 := hP.1.2.1
  have v : vp_in (nI i) 160 := vp_in_nI (by omega) (by decide)
  have c : (nI i).toNatClampNeg = i := nI_clamp (by omega)
  have t6 := (sm_PA hP hi).2.2.1
  have t20 := sm_t20 hP hi
  obtain ⟨x1, x2⟩ := sm_xoe hP hi
  unfold sm_s1 at h
  unfold wpY_successor
  dsimp only
  rw [c, sm_nap]
  refine And.intro v (pk_eq (tk i) 25 (fun e => ?_) (fun e25 => And.intro v (pk_eq (tk i) 21 (fun e => ?_) (fun e21 => And.intro v (pk_eq (tk i) 24 (fun e => ?_) (fun e24 => ?_))))))
  · have := x1 (by omega)
    rw [if_pos (by omega)] at h
    exact h
  · have := x1 (by omega)
    rw [if_neg (by omega), if_pos (by omega)] at h
    exact sm_ysk hP hi (by omega) h
  · refine sm_yop hP hi ?_
    rcases sm_end hP hi e with ⟨y1, y2, y3⟩ | ⟨y1, y2, y3, y4⟩
    · rw [y3]
      rw [if_pos (by omega)] at h
      exact br_f (by decide) h
    · rw [y3, nI_clamp (show hd i (dp i - 1) < 2 ^ 31 by omega), sm_nap]
      refine br_t (nI_pos' (by omega)) (And.intro (vp_in_nI (by omega) (by decide)) ?_)
      rcases y4 with ⟨w1, w2, w3⟩ | ⟨w1, w2⟩
      · rw [if_neg (by omega), if_pos (by omega), w3] at h
        rw [w1]
        exact br_t rfl h
      · rw [if_neg (by omega), if_neg (by omega)] at h
        rw [w1, nI_1]
        exact br_f (by decide) h
  · have ex : xo i = tk i % 100 := by
      refine x1 (fun z => e24 ?_)
      have := t20 (by omega)
      omega
    have : ¬ (xo i = 25 ∨ xo i = 27) := fun z => by
      have := (sm_PA hP hi).2.1
      have := t20 (by omega)
      omega
    have : ¬ (xo i = 21 ∨ xo i = 26) := fun z => by
      have := (sm_PA hP hi).2.1
      have := t20 (by omega)
      omega
    rw [if_neg (by assumption), if_neg (by assumption)] at h
    rw [nI_1]
    exact h
theorem sm_yot {post : Int32 → Prop} (hP : sm_PG 0 np nt pm vs mk gl fi tk xo xj ow hh kk dp pt hd) (hi : i < nt) (h : post (sm_oI (sm_s2 xo xj i))) : wpY_otherwise post (nI cp, nI lm, sta, nI np, opn, nI nt, yh, yd, nI fr, nI bo, col, nI oc, res, sm_n tk, sm_n fi, sm_n pm, sm_n vs, sm_n mk, sm_k gl, yt, yb, ys, yr, sm_n fp, sm_n fa, sm_n fh, lo, st, he, nu, lf, rg, ou) (nI i) := by
  have n160 := hP.1.2.1
  have v : vp_in (nI i) 160 := vp_in_nI (by omega) (by decide)
  have c : (nI i).toNatClampNeg = i := nI_clamp (by omega)
  have t6 := (sm_PA hP hi).2.2.1
  have t20 := sm_t20 hP hi
  obtain ⟨x1, x2⟩ := sm_xoe hP hi
  unfold sm_s2 at h
  unfold wpY_otherwise
  dsimp only
  rw [c, sm_nap]
  have k : tk i = 20 ∨ tk i = 23 → wY_otherwise_22 post (nI i) (nI cp) (nI lm) sta (nI np) opn (nI nt) yh yd (nI fr) (nI bo) col (nI oc) res (sm_n tk) (sm_n fi) (sm_n pm) (sm_n vs) (sm_n mk) (sm_k gl) yt yb ys yr (sm_n fp) (sm_n fa) (sm_n fh) lo st he nu lf rg ou := fun e => by
    have := x1 (by omega)
    rw [if_pos (by omega)] at h
    unfold wY_otherwise_22
    exact sm_ysk hP hi (by omega) h
  refine And.intro v (pk_eq (tk i) 20 (fun e => k (Or.inl e)) (fun e20 => And.intro v (pk_eq (tk i) 23 (fun e => k (Or.inr e)) (fun e23 => ?_))))
  have : ¬ (xo i = 20 ∨ xo i = 23) := fun z => by
    by_cases e24 : tk i % 100 = 24
    · rcases x2 e24 with y | y | y <;> omega
    · have ex := x1 e24
      have := t20 (by omega)
      omega
  rw [if_neg this] at h
  exact h
/-- safepoints -/
def sm_sp (xo : Nat → Nat) (i : Nat) : Bool := decide (xo i = 9 ∨ xo i = 13 ∨ xo i = 26)
theorem sm_ysp {post : Int32 → Prop} (hP : sm_PG opq np nt pm vs mk gl fi tk xo xj ow hh kk dp pt hd) (hi : i < nt) (h : post (nI (sm_sp xo i).toNat)) : wpY_safepoint post (nI cp, nI lm, sta, nI np, opn, nI nt, yh, yd, nI fr, nI bo, col, nI oc, res, sm_n tk, sm_n fi, sm_n pm, sm_n vs, sm_n mk, sm_k gl, yt, yb, ys, yr, sm_n fp, sm_n fa, sm_n fh, lo, st, he, nu, lf, rg, ou) (nI i) := by
  have n160 := hP.1.2.1
  have v : vp_in (nI i) 160 := vp_in_nI (by omega) (by decide)
  have c : (nI i).toNatClampNeg = i := nI_clamp (by omega)
  have ha := sm_PA hP hi
  have t6 := ha.2.2.1
  have t20 := sm_t20 hP hi
  obtain ⟨x1, x2⟩ := sm_xoe hP hi
  unfold sm_sp at h
  unfold wpY_safepoint
  dsimp only
  rw [c, sm_nap, sm_rm (by omega)]
  refine And.intro v (pk_eq (tk i) 9 (fun e => ?_) (fun e9 => And.intro v (And.intro sm_100 (pk_eq (tk i % 100) 13 (fun e => ?_) (fun e13 => And.intro v (pk_eq (tk i) 24 (fun e => ?_) (fun e24 => ?_)))))))
  · have := x1 (by omega)
    rw [decide_eq_true (by omega)] at h
    exact h
  · have := x1 (by omega)
    rw [decide_eq_true (by omega)] at h
    exact h
  · refine sm_yop hP hi ?_
    rcases sm_end hP hi e with ⟨y1, y2, y3⟩ | ⟨y1, y2, y3, y4⟩
    · rw [y3]
      rw [decide_eq_false (by omega)] at h
      exact br_t (by decide) h
    · rw [y3, nI_clamp (show hd i (dp i - 1) < 2 ^ 31 by omega), sm_nap]
      refine br_f (nI_pos (by omega)) (And.intro (vp_in_nI (by omega) (by decide)) ?_)
      rcases y4 with ⟨w1, w2, w3⟩ | ⟨w1, w2⟩
      · rw [decide_eq_true (by omega)] at h
        rw [w1]
        exact br_t rfl h
      · rw [decide_eq_false (by omega)] at h
        rw [w1]
        exact br_f (by decide) h
  · have h24 : tk i % 100 ≠ 24 := fun z => by have := t20 (by omega); omega
    have ex := x1 h24
    have : tk i % 100 ≠ 9 := fun z => by
      have := ha.2.2.2.1 (by omega) (by omega) (by omega) (by omega)
      omega
    have := ha.2.1
    rw [decide_eq_false (by omega)] at h
    exact h
theorem sm_xsp {post : Int32 → Prop} (hP : sm_PG opq np nt pm vs mk gl fi tk xo xj ow hh kk dp pt hd) (hi : i < nt) (h : post (nI (sm_sp xo i).toNat)) : wpX_isSafepoint post (xle, xpe, nI cp, nI lm, sta, nI np, opn, nI nt, xch, xck, xbc, nI fr, nI sb, nI us, xcb, xcc, col, nI bo, nI oc, res, sm_n pm, sm_n vs, sm_n mk, sm_k gl, sm_n fi, sm_n tk, sm_n xo, sm_n (sm_ar tk), sm_n xj, sm_n ow, sm_n xh, sm_n xk, sm_n xl, xbk, xbp, xbh, sm_n fp, sm_n fa, sl, cn, cl, cr, sm_n cb, fw, ou) (nI i) := by
  have n160 := hP.1.2.1
  have v : vp_in (nI i) 160 := vp_in_nI (by omega) (by decide)
  have c : (nI i).toNatClampNeg = i := nI_clamp (by omega)
  obtain ⟨o1, o2⟩ := sm_xol hP hi
  unfold sm_sp at h
  refine And.intro v (nm_r (e' := nI (xo i)) (by rw [c, sm_nap]) (pk_eq (xo i) 9 (fun e => ?_) (fun e9 => pk_eq (xo i) 13 (fun e => ?_) (fun e13 => pk_eq (xo i) 26 (fun e => ?_) (fun e26 => ?_)))))
  · rw [decide_eq_true (by omega)] at h; exact h
  · rw [decide_eq_true (by omega)] at h; exact h
  · rw [decide_eq_true (by omega)] at h; exact h
  · rw [decide_eq_false (by omega)] at h; exact h
end
end
section
/-! the reference's search for liveness -/
section
variable {xle xpe sta opn xch xck xbc xcb xcc col res yh yd : Int32} {cp lm np nt fr sb us bo oc : Nat} {pm vs mk fi tk xo xj ow xh xk xl fp fa fh cb : Nat → Nat} {gl : Nat → Bool} {xbk xbp xbh sl cn cl cr fw ou yt yb ys yr lo st he nu lf rg : Nat → Int32} {hh kk dp : Nat → Nat} {pt hd : Nat → Nat → Nat}
variable {i v : Nat} {opq : Int32}
def sm_CA (tk xo xj : Nat → Nat) (v : Nat) (ys : Nat → Int32) (q : Nat) : Prop :=
  ys q ≠ 0 → tk q ≠ 3 + 100 * v ∧ (tk q ≠ 14 + 100 * v → ∀ s, (sm_s1 xo xj q = some s ∨ sm_s2 xo xj q = some s) → ys s ≠ 0)
def sm_sn (nt : Nat) (tk xo xj : Nat → Nat) (v i : Nat) (ys : Nat → Int32) : Prop := ys i ≠ 0 ∧ ∀ q, q < nt → ys q ≠ 0 → sm_lv nt tk xo xj v q → sm_lv nt tk xo xj v i
def sm_sc2 (ys : Nat → Int32) : Nat := sm_cnt (fun q => decide (ys q ≠ 0)) 160
def sm_yle (ys ys' : Nat → Int32) : Prop := ∀ q, ys q ≠ 0 → ys' q ≠ 0
theorem sm_yset {ys : Nat → Int32} {s : Nat} (hs : s < 160) (h0 : ys s = 0) : sm_yle ys (upd ys s 1) ∧ sm_sc2 ys < sm_sc2 (upd ys s 1) := by
  have le : sm_yle ys (upd ys s 1) := fun q hq => by
    by_cases e : q = s
    · rw [e, pk_us]; decide
    · rw [pk_un e]; exact hq
  refine ⟨le, sm_cnt_lt 160 (fun q _ hq => decide_eq_true (le q (of_decide_eq_true hq))) s hs (decide_eq_false (by simp [h0])) (decide_eq_true ?_)⟩
  rw [pk_us]; decide
theorem sm_ysc {ys ys' : Nat → Int32} (h : sm_yle ys ys') : sm_sc2 ys ≤ sm_sc2 ys' := sm_cnt_mono 160 (fun q _ hq => decide_eq_true (h q (of_decide_eq_true hq)))
theorem sm_snset {ys : Nat → Int32} {s q : Nat} (hq : q < nt) (hs : s < nt) (h : sm_sn nt tk xo xj v i ys) (hy : ys q ≠ 0) (h14 : tk q ≠ 14 + 100 * v) (he : sm_s1 xo xj q = some s ∨ sm_s2 xo xj q = some s) : sm_sn nt tk xo xj v i (upd ys s 1) := by
  refine ⟨?_, fun p hp hy2 hl => ?_⟩
  · by_cases e : i = s
    · rw [e, pk_us]; decide
    · rw [pk_un e]; exact h.1
  · by_cases e : p = s
    · subst e
      exact h.2 q hq hy (sm_ls_e hl ⟨hq, h14, he⟩)
    · rw [pk_un e] at hy2
      exact h.2 p hp hy2 hl
/-- the second successor -/
theorem sm_y158 {post : Int32 → SY → Prop} {J36 J53 : Int32 → Int32 → (Nat → Int32) → (Nat → Int32) → (Nat → Int32) → (Nat → Int32) → (Nat → Int32) → (Nat → Int32) → (Nat → Int32) → (Nat → Int32) → (Nat → Int32) → (Nat → Int32) → (Nat → Int32) → (Nat → Int32) → (Nat → Int32) → (Nat → Int32) → (Nat → Int32) → (Nat → Int32) → (Nat → Int32) → (Nat → Int32) → (Nat → Int32) → (Nat → Int32) → Prop} {x1 x4 : Int32} (hP : sm_PG 0 np nt pm vs mk gl fi tk xo xj ow hh kk dp pt hd) {q : Nat} (hq : q < nt) (x3 : Int32) (ys : Nat → Int32) (hsn : sm_sn nt tk xo xj v i ys) (hy : ys q ≠ 0) (h14 : tk q ≠ 14 + 100 * v)
    (h : ∀ x3' ys', sm_sn nt tk xo xj v i ys' → sm_yle ys ys' → ((x3' = x3 ∧ ys' = ys ∧ ∀ s, sm_s2 xo xj q = some s → ys s ≠ 0) ∨ (x3' = 1 ∧ sm_sc2 ys < sm_sc2 ys')) → J53 x3' (nI (q + 1)) (sm_n tk) (sm_n fi) (sm_n pm) (sm_n vs) (sm_n mk) (sm_k gl) yt yb ys' yr (sm_n fp) (sm_n fa) (sm_n fh) lo st he nu lf rg ou) :
    wY_live_158 post J36 J53 x1 x3 x4 (nI q) (sm_oI (sm_s2 xo xj q)) (nI cp) (nI lm) sta (nI np) opn (nI nt) yh yd (nI fr) (nI bo) col (nI oc) res (sm_n tk) (sm_n fi) (sm_n pm) (sm_n vs) (sm_n mk) (sm_k gl) yt yb ys yr (sm_n fp) (sm_n fa) (sm_n fh) lo st he nu lf rg ou := by
  have n160 := hP.1.2.1
  cases e : sm_s2 xo xj q with
  | none => exact br_t (by decide) (nm_r (nI_1 q) (h x3 ys hsn (fun _ z => z) (Or.inl ⟨rfl, rfl, fun s z => by rw [e] at z; cases z⟩)))
  | some s =>
    have hs := (sm_s2f hP hq e).1
    have vps : vp_in (nI s) 160 := vp_in_nI (by omega) (by decide)
    show wY_live_158 post J36 J53 x1 x3 x4 (nI q) (nI s) (nI cp) (nI lm) sta (nI np) opn (nI nt) yh yd (nI fr) (nI bo) col (nI oc) res (sm_n tk) (sm_n fi) (sm_n pm) (sm_n vs) (sm_n mk) (sm_k gl) yt yb ys yr (sm_n fp) (sm_n fa) (sm_n fh) lo st he nu lf rg ou
    unfold wY_live_158
    rw [nI_clamp (show s < 2 ^ 31 by omega)]
    refine br_f (nI_pos (by omega)) (And.intro vps (br_c (fun z => And.intro vps (nm_e (nm_r (nI_1 q) ?_))) (fun z => nm_r (nI_1 q) ?_)))
    · obtain ⟨a1, a2⟩ := sm_yset (show s < 160 by omega) z
      rw [sm_b1]
      exact h 1 _ (sm_snset hq hs hsn hy h14 (Or.inr e)) a1 (Or.inr ⟨rfl, a2⟩)
    · exact h x3 ys hsn (fun _ z => z) (Or.inl ⟨rfl, rfl, fun s' z' => by rw [e] at z'; cases z'; exact z⟩)
theorem sm_y90 {post : Int32 → SY → Prop} {J36 J53 : Int32 → Int32 → (Nat → Int32) → (Nat → Int32) → (Nat → Int32) → (Nat → Int32) → (Nat → Int32) → (Nat → Int32) → (Nat → Int32) → (Nat → Int32) → (Nat → Int32) → (Nat → Int32) → (Nat → Int32) → (Nat → Int32) → (Nat → Int32) → (Nat → Int32) → (Nat → Int32) → (Nat → Int32) → (Nat → Int32) → (Nat → Int32) → (Nat → Int32) → (Nat → Int32) → Prop} {x4 : Int32} (hP : sm_PG 0 np nt pm vs mk gl fi tk xo xj ow hh kk dp pt hd) (hv : v < 8) {q : Nat} (hq : q < nt) (x3 : Int32) (ys : Nat → Int32) (hsn : sm_sn nt tk xo xj v i ys) (h3 : ys q ≠ 0 → tk q ≠ 3 + 100 * v)
    (h : ∀ x3' ys', sm_sn nt tk xo xj v i ys' → sm_yle ys ys' → ((x3' = x3 ∧ ys' = ys ∧ sm_CA tk xo xj v ys q) ∨ (x3' = 1 ∧ sm_sc2 ys < sm_sc2 ys')) → J53 x3' (nI (q + 1)) (sm_n tk) (sm_n fi) (sm_n pm) (sm_n vs) (sm_n mk) (sm_k gl) yt yb ys' yr (sm_n fp) (sm_n fa) (sm_n fh) lo st he nu lf rg ou) :
    wY_live_90 post J36 J53 (nI v) x3 x4 (nI q) (nI cp) (nI lm) sta (nI np) opn (nI nt) yh yd (nI fr) (nI bo) col (nI oc) res (sm_n tk) (sm_n fi) (sm_n pm) (sm_n vs) (sm_n mk) (sm_k gl) yt yb ys yr (sm_n fp) (sm_n fa) (sm_n fh) lo st he nu lf rg ou := by
  have n160 := hP.1.2.1
  have vq : vp_in (nI q) 160 := vp_in_nI (by omega) (by decide)
  have t6 := (sm_PA hP hq).2.2.1
  unfold wY_live_90
  rw [nI_clamp (show q < 2 ^ 31 by omega), sm_nap, sm_um100, sm_da14]
  refine And.intro vq (br_c (fun z => nm_r (nI_1 q) (h x3 ys hsn (fun _ y => y) (Or.inl ⟨rfl, rfl, fun y => absurd z y⟩))) (fun z => And.intro vq (pk_eq (tk q) (14 + 100 * v) (fun e14 => nm_r (nI_1 q) (h x3 ys hsn (fun _ y => y) (Or.inl ⟨rfl, rfl, fun y => ⟨h3 y, fun y2 => absurd e14 y2⟩⟩))) (fun e14 => ?_))))
  refine sm_ysu hP hq (sm_yot hP hq ?_)
  cases e : sm_s1 xo xj q with
  | none =>
    refine br_t (by decide) (sm_y158 hP hq x3 ys hsn z e14 (fun x3' ys' a b c => h x3' ys' a b ?_))
    rcases c with ⟨c1, c2, c3⟩ | c
    · refine Or.inl ⟨c1, c2, fun y => ⟨h3 y, fun _ s hs => ?_⟩⟩
      rcases hs with hs | hs
      · rw [e] at hs; cases hs
      · exact c3 s hs
    · exact Or.inr c
  | some s =>
    have hs := (sm_s1f hP hq e).1
    have vps : vp_in (nI s) 160 := vp_in_nI (by omega) (by decide)
    rw [show sm_oI (some s) = nI s from rfl, nI_clamp (show s < 2 ^ 31 by omega)]
    refine br_f (nI_pos (by omega)) ?_
    refine And.intro vps (br_c (fun z0 => And.intro vps (nm_e ?_)) (fun z0 => ?_))
    · obtain ⟨a1, a2⟩ := sm_yset (show s < 160 by omega) z0
      rw [sm_b1]
      refine sm_y158 hP hq 1 _ (sm_snset hq hs hsn z e14 (Or.inl e)) (a1 q z) e14 (fun x3' ys' a b c => h x3' ys' a (fun p hp => b p (a1 p hp)) (Or.inr ?_))
      rcases c with ⟨c1, c2, c3⟩ | ⟨c1, c2⟩
      · exact ⟨c1, by rw [c2]; exact a2⟩
      · exact ⟨c1, by omega⟩
    · refine sm_y158 hP hq x3 ys hsn z e14 (fun x3' ys' a b c => h x3' ys' a b ?_)
      rcases c with ⟨c1, c2, c3⟩ | c
      · refine Or.inl ⟨c1, c2, fun y => ⟨h3 y, fun _ s' hs' => ?_⟩⟩
        rcases hs' with hs' | hs'
        · rw [e] at hs'; cases hs'; exact z0
        · exact c3 s' hs'
      · exact Or.inr c
/-- one round -/
theorem sm_y53 {post : Int32 → SY → Prop} {J36 : Int32 → Int32 → (Nat → Int32) → (Nat → Int32) → (Nat → Int32) → (Nat → Int32) → (Nat → Int32) → (Nat → Int32) → (Nat → Int32) → (Nat → Int32) → (Nat → Int32) → (Nat → Int32) → (Nat → Int32) → (Nat → Int32) → (Nat → Int32) → (Nat → Int32) → (Nat → Int32) → (Nat → Int32) → (Nat → Int32) → (Nat → Int32) → (Nat → Int32) → (Nat → Int32) → Prop} {x4 : Int32} (hP : sm_PG 0 np nt pm vs mk gl fi tk xo xj ow hh kk dp pt hd) (hv : v < 8) (h1 : sm_lv nt tk xo xj v i → ∀ ys, post 1 (nI cp, nI lm, sta, nI np, opn, nI nt, yh, yd, nI fr, nI bo, col, nI oc, res, sm_n tk, sm_n fi, sm_n pm, sm_n vs, sm_n mk, sm_k gl, yt, yb, ys, yr, sm_n fp, sm_n fa, sm_n fh, lo, st, he, nu, lf, rg, ou)) :
    ∀ m q x3 ys, q ≤ nt → nt - q < m → sm_sn nt tk xo xj v i ys →
    (∀ x3' ys', sm_sn nt tk xo xj v i ys' → ((x3' = x3 ∧ ys' = ys ∧ ∀ p, q ≤ p → p < nt → sm_CA tk xo xj v ys p) ∨ (x3' = 1 ∧ sm_sc2 ys < sm_sc2 ys')) → J36 x3' (x4 + 1) (sm_n tk) (sm_n fi) (sm_n pm) (sm_n vs) (sm_n mk) (sm_k gl) yt yb ys' yr (sm_n fp) (sm_n fa) (sm_n fh) lo st he nu lf rg ou) →
    wY_live_53 post J36 (nI v) x4 (nI cp) (nI lm) sta (nI np) opn (nI nt) yh yd (nI fr) (nI bo) col (nI oc) res m x3 (nI q) (sm_n tk) (sm_n fi) (sm_n pm) (sm_n vs) (sm_n mk) (sm_k gl) yt yb ys yr (sm_n fp) (sm_n fa) (sm_n fh) lo st he nu lf rg ou := by
  have n160 := hP.1.2.1
  intro m
  induction m with
  | zero => intro q x3 ys _ h; omega
  | succ m ih =>
    intro q x3 ys hq hm hsn hJ
    refine pk_le nt q (fun z => nm_e (hJ x3 ys hsn (Or.inl ⟨rfl, rfl, fun p a b => by omega⟩))) (fun z => ?_)
    have vq : vp_in (nI q) 160 := vp_in_nI (by omega) (by decide)
    have t6 := (sm_PA hP z).2.2.1
    rw [nI_clamp (show q < 2 ^ 31 by omega), sm_nap, sm_um100, sm_da3]
    have k90 : (ys q ≠ 0 → tk q ≠ 3 + 100 * v) → wY_live_90 post J36 (wY_live_53 post J36 (nI v) x4 (nI cp) (nI lm) sta (nI np) opn (nI nt) yh yd (nI fr) (nI bo) col (nI oc) res m) (nI v) x3 x4 (nI q) (nI cp) (nI lm) sta (nI np) opn (nI nt) yh yd (nI fr) (nI bo) col (nI oc) res (sm_n tk) (sm_n fi) (sm_n pm) (sm_n vs) (sm_n mk) (sm_k gl) yt yb ys yr (sm_n fp) (sm_n fa) (sm_n fh) lo st he nu lf rg ou := fun h3 =>
      sm_y90 hP hv z x3 ys hsn h3 (fun x3' ys' a b c => by
        refine ih (q + 1) x3' ys' (by omega) (by omega) a (fun x3'' ys'' a' c' => hJ x3'' ys'' a' ?_)
        rcases c with ⟨c1, c2, c3⟩ | ⟨c1, c2⟩
        · subst c1 c2
          rcases c' with ⟨d1, d2, d3⟩ | d
          · refine Or.inl ⟨d1, d2, fun p p1 p2 => ?_⟩
            by_cases e : p = q
            · rw [e]; exact c3
            · exact d3 p (by omega) p2
          · exact Or.inr d
        · rcases c' with ⟨d1, d2, d3⟩ | ⟨d1, d2⟩
          · exact Or.inr ⟨by rw [d1, c1], by rw [d2]; exact c2⟩
          · exact Or.inr ⟨d1, by omega⟩)
    refine And.intro vq (br_c (fun z0 => k90 (fun y => absurd z0 y)) (fun z0 => And.intro vq (pk_eq (tk q) (3 + 100 * v) (fun e => h1 (hsn.2 q z z0 (sm_ls_r ⟨z, e⟩)) _) (fun e => k90 (fun _ => e)))))
/-- all rounds -/
theorem sm_y36 {post : Int32 → SY → Prop} (hP : sm_PG 0 np nt pm vs mk gl fi tk xo xj ow hh kk dp pt hd) (hi : i < nt) (hv : v < 8) (h1 : sm_lv nt tk xo xj v i → ∀ ys, post 1 (nI cp, nI lm, sta, nI np, opn, nI nt, yh, yd, nI fr, nI bo, col, nI oc, res, sm_n tk, sm_n fi, sm_n pm, sm_n vs, sm_n mk, sm_k gl, yt, yb, ys, yr, sm_n fp, sm_n fa, sm_n fh, lo, st, he, nu, lf, rg, ou)) (h0 : ¬ sm_lv nt tk xo xj v i → ∀ ys, post 0 (nI cp, nI lm, sta, nI np, opn, nI nt, yh, yd, nI fr, nI bo, col, nI oc, res, sm_n tk, sm_n fi, sm_n pm, sm_n vs, sm_n mk, sm_k gl, yt, yb, ys, yr, sm_n fp, sm_n fa, sm_n fh, lo, st, he, nu, lf, rg, ou)) :
    ∀ m r x3 ys, r ≤ 160 → 160 < m + r → sm_sn nt tk xo xj v i ys → ((x3 = 0 ∧ ∀ p, p < nt → sm_CA tk xo xj v ys p) ∨ (x3 = 1 ∧ r + 1 ≤ sm_sc2 ys)) →
    wY_live_36 post (nI v) (nI cp) (nI lm) sta (nI np) opn (nI nt) yh yd (nI fr) (nI bo) col (nI oc) res m x3 (nI r) (sm_n tk) (sm_n fi) (sm_n pm) (sm_n vs) (sm_n mk) (sm_k gl) yt yb ys yr (sm_n fp) (sm_n fa) (sm_n fh) lo st he nu lf rg ou := by
  intro m
  induction m with
  | zero => intro r x3 ys a b; omega
  | succ m ih =>
    intro r x3 ys hr hm hsn hc
    have done : (x3 = 0 ∧ ∀ p, p < nt → sm_CA tk xo xj v ys p) → post 0 (nI cp, nI lm, sta, nI np, opn, nI nt, yh, yd, nI fr, nI bo, col, nI oc, res, sm_n tk, sm_n fi, sm_n pm, sm_n vs, sm_n mk, sm_k gl, yt, yb, ys, yr, sm_n fp, sm_n fa, sm_n fh, lo, st, he, nu, lf, rg, ou) := by
      rintro ⟨_, hCA⟩
      refine h0 (fun hl => ?_) ys
      have := sm_ls_i hl (fun q => ¬ (q < nt ∧ ys q ≠ 0)) (fun q hq hy => (hCA q hq.1 hy.2).1 hq.2) (fun s q hs hE hy => ?_)
      · exact this ⟨hi, hsn.1⟩
      · obtain ⟨e1, e2, e3⟩ := hE
        refine hs ⟨?_, (hCA q e1 hy.2).2 e2 s e3⟩
        rcases e3 with e3 | e3
        · exact (sm_s1f hP e1 e3).1
        · exact (sm_s2f hP e1 e3).1
    have hle : sm_sc2 ys ≤ 160 := sm_cnt_le _ 160
    rcases hc with hc | ⟨e3, hc⟩
    · exact pk_le 160 r (fun _ => done hc) (fun _ => br_t hc.1 (done hc))
    · subst e3
      refine pk_le 160 r (fun z => absurd z (by omega)) (fun _ => br_f sm_10 ⟨nt + 1, sm_y53 hP hv h1 (nt + 1) 0 0 ys (by omega) (by omega) hsn (fun x3' ys' a c => ?_)⟩)
      rw [nI_1]
      refine ih (r + 1) x3' ys' (by omega) (by omega) a ?_
      rcases c with ⟨c1, c2, c3⟩ | ⟨c1, c2⟩
      · exact Or.inl ⟨c1, fun p hp => by rw [c2]; exact c3 p (Nat.zero_le p) hp⟩
      · exact Or.inr ⟨c1, by omega⟩
theorem sm_y2 {post : Int32 → SY → Prop} (hi : i < 160) (h : ∀ ys, (∀ q, q < 160 → ys q = if q = i then 1 else 0) → ∃ n36, wY_live_36 post (nI v) (nI cp) (nI lm) sta (nI np) opn (nI nt) yh yd (nI fr) (nI bo) col (nI oc) res n36 1 0 (sm_n tk) (sm_n fi) (sm_n pm) (sm_n vs) (sm_n mk) (sm_k gl) yt yb ys yr (sm_n fp) (sm_n fa) (sm_n fh) lo st he nu lf rg ou) :
    ∀ m j ys, j ≤ 160 → 160 - j < m → (∀ q, q < j → ys q = if q = i then 1 else 0) → wY_live_2 post (nI v) (nI i) (nI cp) (nI lm) sta (nI np) opn (nI nt) yh yd (nI fr) (nI bo) col (nI oc) res m (nI j) (sm_n tk) (sm_n fi) (sm_n pm) (sm_n vs) (sm_n mk) (sm_k gl) yt yb ys yr (sm_n fp) (sm_n fa) (sm_n fh) lo st he nu lf rg ou := by
  intro m
  induction m with
  | zero => intro j ys _ h; omega
  | succ m ih =>
    intro j ys hj hm hys
    refine pk_le 160 j (fun z => h ys (fun q hq => hys q (by omega))) (fun z => ?_)
    have vj : vp_in (nI j) 160 := vp_in_nI (by omega) (by decide)
    rw [nI_clamp (show j < 2 ^ 31 by omega), sm_b0, sm_b1]
    have step : ∀ w : Int32, (w = if j = i then 1 else 0) → wY_live_2 post (nI v) (nI i) (nI cp) (nI lm) sta (nI np) opn (nI nt) yh yd (nI fr) (nI bo) col (nI oc) res m (nI (j + 1)) (sm_n tk) (sm_n fi) (sm_n pm) (sm_n vs) (sm_n mk) (sm_k gl) yt yb (upd ys j w) yr (sm_n fp) (sm_n fa) (sm_n fh) lo st he nu lf rg ou := by
      intro w hw
      refine ih (j + 1) _ (by omega) (by omega) (fun q hq => ?_)
      by_cases e : q = j
      · rw [e, pk_us]; exact hw
      · rw [pk_un e]; exact hys q (by omega)
    refine pk_eq j i (fun e => And.intro vj (nm_e (nm_r (nI_1 j) (step 1 (if_pos e).symm)))) (fun e => And.intro vj (nm_e (nm_r (nI_1 j) (step 0 (if_neg e).symm))))
theorem sm_ylive {post : Int32 → SY → Prop} (hP : sm_PG 0 np nt pm vs mk gl fi tk xo xj ow hh kk dp pt hd) (hi : i < nt) (hv : v < 8) (h1 : sm_lv nt tk xo xj v i → ∀ ys, post 1 (nI cp, nI lm, sta, nI np, opn, nI nt, yh, yd, nI fr, nI bo, col, nI oc, res, sm_n tk, sm_n fi, sm_n pm, sm_n vs, sm_n mk, sm_k gl, yt, yb, ys, yr, sm_n fp, sm_n fa, sm_n fh, lo, st, he, nu, lf, rg, ou)) (h0 : ¬ sm_lv nt tk xo xj v i → ∀ ys, post 0 (nI cp, nI lm, sta, nI np, opn, nI nt, yh, yd, nI fr, nI bo, col, nI oc, res, sm_n tk, sm_n fi, sm_n pm, sm_n vs, sm_n mk, sm_k gl, yt, yb, ys, yr, sm_n fp, sm_n fa, sm_n fh, lo, st, he, nu, lf, rg, ou)) : wpY_live post (nI cp, nI lm, sta, nI np, opn, nI nt, yh, yd, nI fr, nI bo, col, nI oc, res, sm_n tk, sm_n fi, sm_n pm, sm_n vs, sm_n mk, sm_k gl, yt, yb, ys, yr, sm_n fp, sm_n fa, sm_n fh, lo, st, he, nu, lf, rg, ou) (nI v) (nI i) := by
  have n160 := hP.1.2.1
  refine ⟨161, sm_y2 (show i < 160 by omega) (fun ys hys => ⟨161, sm_y36 hP hi hv h1 h0 161 0 1 ys (by omega) (by omega) ?_ (Or.inr ⟨rfl, ?_⟩)⟩) 161 0 ys (by omega) (by omega) (fun q hq => by omega)⟩
  · refine ⟨by rw [hys i (by omega), if_pos rfl]; decide, fun q hq hy hl => ?_⟩
    by_cases e : q = i
    · rw [← e]; exact hl
    · rw [hys q (by omega), if_neg e] at hy; exact absurd rfl hy
  · have : 0 < sm_sc2 ys := by
      have h := sm_cnt_lt (P := fun _ => false) (Q := fun q => decide (ys q ≠ 0)) 160 (fun _ _ z => absurd z (by decide)) i (by omega) rfl (decide_eq_true (by rw [hys i (by omega), if_pos rfl]; decide))
      unfold sm_sc2
      omega
    omega
end
end
section
/-! roots and reach -/
section
variable {xle xpe sta opn xch xck xbc xcb xcc col res yh yd : Int32} {cp lm np nt fr sb us bo oc : Nat} {pm vs mk fi tk xo xj ow xh xk xl fp fa fh cb : Nat → Nat} {gl : Nat → Bool} {xbk xbp xbh sl cn cl cr fw ou yt yb ys yr lo st he nu lf rg : Nat → Int32} {hh kk dp : Nat → Nat} {pt hd : Nat → Nat → Nat}
variable {f s : Nat}
def sm_rtb (mk kk xl fp fa fh : Nat → Nat) (f s : Nat) : Bool := if s < 8 then (xl (fa f)).testBit s && (mk (fp f)).testBit s else (kk (fa f)).testBit (s - 8) && decide (s - 8 < fh f)
def sm_rmv (mk kk xl fp fa fh : Nat → Nat) (f : Nat) : Nat := ((xl (fa f) &&& mk (fp f)) ||| kk (fa f) * 256) &&& (255 ||| (2 ^ fh f - 1) * 256)
theorem sm_rmt (hx : xl (fa f) < 256) : (sm_rmv mk kk xl fp fa fh f).testBit s = sm_rtb mk kk xl fp fa fh f s := by
  unfold sm_rmv sm_rtb
  rw [Nat.testBit_and, Nat.testBit_or, Nat.testBit_or, Nat.testBit_and, sm_m8, sm_m8, show 255 = 2 ^ 8 - 1 from rfl, Nat.testBit_two_pow_sub_one, Nat.testBit_two_pow_sub_one]
  by_cases h : s < 8
  · rw [if_pos h, decide_eq_true h, decide_eq_false (show ¬ 8 ≤ s by omega)]
    simp
  · rw [if_neg h, decide_eq_false h, decide_eq_true (show 8 ≤ s by omega), sm_tz (n := 8) hx (by omega)]
    simp
theorem sm_rmb (hx : xl (fa f) < 256) (hk : kk (fa f) < 256) : sm_rmv mk kk xl fp fa fh f < 65536 := by
  unfold sm_rmv
  refine Nat.lt_of_le_of_lt Nat.and_le_left ?_
  refine Nat.or_lt_two_pow (n := 16) (Nat.lt_of_le_of_lt Nat.and_le_left ?_) ?_
  · exact Nat.lt_of_lt_of_le hx (by decide)
  · omega
/-- X's small readers of a frame -/
theorem sm_xoc {post : Int32 → Prop} (hP : sm_PG 0 np nt pm vs mk gl fi tk xo xj ow hh kk dp pt hd) (hxx : ∀ i, i < nt → xh i = hh i ∧ xk i = kk i) (h8 : fr ≤ 8) (hf : f < fr) (hF : sm_FS np nt fr pm tk ow hh fp fa fh f) (h : post (nI (fh f))) : wpX_operandCount post (xle, xpe, nI cp, nI lm, sta, nI np, opn, nI nt, xch, xck, xbc, nI fr, nI sb, nI us, xcb, xcc, col, nI bo, nI oc, res, sm_n pm, sm_n vs, sm_n mk, sm_k gl, sm_n fi, sm_n tk, sm_n xo, sm_n (sm_ar tk), sm_n xj, sm_n ow, sm_n xh, sm_n xk, sm_n xl, xbk, xbp, xbh, sm_n fp, sm_n fa, sl, cn, cl, cr, sm_n cb, fw, ou) (nI f) := by
  have n160 := hP.1.2.1
  have n8 := hP.1.1
  obtain ⟨⟨f1, f2, f3⟩, f4, f5⟩ := hF
  have hb := (sm_PH hP (show fa f ≤ nt by omega)).1
  refine And.intro (vp_in_nI (by omega) (by decide)) (nm_r (e' := nI (fa f)) (by rw [nI_clamp (by omega), sm_nap]) (And.intro (vp_in_nI (by omega) (by decide)) (nm_r (e' := nI (hh (fa f))) (by rw [nI_clamp (by omega), sm_nap, (hxx _ f2).1]) ?_)))
  rw [sm_sb1 (by omega)]
  refine pk_le (fr - 1) f (fun z => ?_) (fun z => ?_)
  · rw [← f4 (by omega)]; exact h
  · obtain ⟨g1, g2, g3⟩ := f5 (by omega)
    have ga := (sm_PA hP f2).2.2.2.2.2.1 g1
    rw [nI_clamp (show fa f < 2 ^ 31 by omega), sm_nap, sm_arap, nI_clamp (show tk (fa f) / 100 < 2 ^ 31 by omega), sm_nap]
    refine And.intro (vp_in_nI (by omega) (by decide)) (And.intro (vp_in_nI (by omega) (by decide)) (nm_r (e' := nI (fh f)) ?_ h))
    rw [pk_sub (by omega)]
    congr 1
    omega
theorem sm_xlm {post : Int32 → Prop} {i : Nat} (hP : sm_PG 0 np nt pm vs mk gl fi tk xo xj ow hh kk dp pt hd) (hxx : ∀ i, i < nt → xh i = hh i ∧ xk i = kk i) (hi : i < nt) (h : post (nI ((xl i &&& mk (ow i)) ||| kk i * 256))) : wpX_linkMap post (xle, xpe, nI cp, nI lm, sta, nI np, opn, nI nt, xch, xck, xbc, nI fr, nI sb, nI us, xcb, xcc, col, nI bo, nI oc, res, sm_n pm, sm_n vs, sm_n mk, sm_k gl, sm_n fi, sm_n tk, sm_n xo, sm_n (sm_ar tk), sm_n xj, sm_n ow, sm_n xh, sm_n xk, sm_n xl, xbk, xbp, xbh, sm_n fp, sm_n fa, sl, cn, cl, cr, sm_n cb, fw, ou) (nI i) := by
  have n160 := hP.1.2.1
  have n8 := hP.1.1
  have ho := (sm_PA hP hi).2.2.2.2.2.2
  have v : vp_in (nI i) 160 := vp_in_nI (by omega) (by decide)
  have hk := sm_PH hP (show i ≤ nt by omega)
  have hk8 : kk i < 256 := Nat.lt_of_lt_of_le hk.2 (sm_p8 hk.1)
  have e : wpX_linkMap post (xle, xpe, nI cp, nI lm, sta, nI np, opn, nI nt, xch, xck, xbc, nI fr, nI sb, nI us, xcb, xcc, col, nI bo, nI oc, res, sm_n pm, sm_n vs, sm_n mk, sm_k gl, sm_n fi, sm_n tk, sm_n xo, sm_n (sm_ar tk), sm_n xj, sm_n ow, sm_n xh, sm_n xk, sm_n xl, xbk, xbp, xbh, sm_n fp, sm_n fa, sl, cn, cl, cr, sm_n cb, fw, ou) (nI i) = (vp_in (nI i) 160 ∧ (vp_in (nI i) 160 ∧ (vp_in (sm_n ow (nI i).toNatClampNeg) 8 ∧ (vp_in (nI i) 160 ∧ (post (((sm_n xl (nI i).toNatClampNeg) &&& (sm_n mk (sm_n ow (nI i).toNatClampNeg).toNatClampNeg)) ||| ((sm_n xk (nI i).toNatClampNeg) <<< ((8 : Int32) &&& 31)))))))) := rfl
  rw [e, nI_clamp (show i < 2 ^ 31 by omega), sm_nap, sm_nap, sm_nap, nI_clamp (show ow i < 2 ^ 31 by omega), sm_nap, (hxx i hi).2, sm_8s _ (by omega), sm_and, sm_or]
  exact ⟨v, v, vp_in_nI (by omega) (by decide), v, h⟩
theorem sm_xfr {post : Int32 → Prop} (hP : sm_PG 0 np nt pm vs mk gl fi tk xo xj ow hh kk dp pt hd) (hxx : ∀ i, i < nt → xh i = hh i ∧ xk i = kk i) (h8 : fr ≤ 8) (hf : f < fr) (hF : sm_FS np nt fr pm tk ow hh fp fa fh f) (h : post (nI (sm_rmv mk kk xl fp fa fh f))) : wpX_frameRoots post (xle, xpe, nI cp, nI lm, sta, nI np, opn, nI nt, xch, xck, xbc, nI fr, nI sb, nI us, xcb, xcc, col, nI bo, nI oc, res, sm_n pm, sm_n vs, sm_n mk, sm_k gl, sm_n fi, sm_n tk, sm_n xo, sm_n (sm_ar tk), sm_n xj, sm_n ow, sm_n xh, sm_n xk, sm_n xl, xbk, xbp, xbh, sm_n fp, sm_n fa, sl, cn, cl, cr, sm_n cb, fw, ou) (nI f) := by
  have n160 := hP.1.2.1
  obtain ⟨⟨f1, f2, f3⟩, f4, f5⟩ := id hF
  have hb := (sm_PH hP (show fa f ≤ nt by omega)).1
  have hfh : fh f ≤ 8 := by
    by_cases e : f + 1 = fr
    · rw [f4 e]; exact hb
    · have := (f5 (by omega)).2.1
      omega
  unfold wpX_frameRoots
  dsimp only
  refine sm_xoc hP hxx h8 hf hF (nm_e (And.intro (vp_in_nI (by omega) (by decide)) ?_))
  rw [nI_clamp (show f < 2 ^ 31 by omega), sm_nap]
  refine sm_xlm hP hxx f2 ?_
  have p8 := sm_p8 hfh
  rw [sm_msk (by omega), sm_8s _ (by omega), f3]
  have e2 : (255 : Int32) ||| nI ((2 ^ fh f - 1) * 256) = nI (255 ||| (2 ^ fh f - 1) * 256) := sm_or 255 _
  rw [e2, sm_and]
  exact h
/-- what a live slot holds -/
theorem sm_rtv (hP : sm_PG 0 np nt pm vs mk gl fi tk xo xj ow hh kk dp pt hd) (hF : sm_FR np nt fr us sb pm vs mk tk ow hh kk xl fp fa fh cb sl lo st f) (hs : s < 16) (hr : sm_rtb mk kk xl fp fa fh f s = true) : (s < 8 → s < vs (fp f) ∧ sm_VR us sb cb (sl (f * 16 + s)) (lo (f * 8 + s))) ∧ (8 ≤ s → s - 8 < fh f ∧ sm_VR us sb cb (sl (f * 16 + s)) (st (f * 8 + (s - 8)))) := by
  obtain ⟨⟨f1, f2, f3⟩, f4, f5, f6, f7⟩ := hF
  unfold sm_rtb at hr
  refine ⟨fun h => ?_, fun h => ?_⟩
  · rw [if_pos h, Bool.and_eq_true] at hr
    have hv : s < vs (fp f) := by
      by_cases e : s < vs (fp f)
      · exact e
      · have := sm_tz (sm_PQ hP f1).2.2.2.1 (show vs (fp f) ≤ s by omega)
        rw [hr.2] at this
        cases this
    exact ⟨hv, (f6 s hv).2 hr.2 hr.1⟩
  · rw [if_neg (by omega), Bool.and_eq_true, decide_eq_true_eq] at hr
    have := (f7 (s - 8) hr.2).2 hr.1
    rw [show f * 16 + 8 + (s - 8) = f * 16 + s by omega] at this
    exact ⟨hr.2, this⟩
/-- the graph of the cells -/
def sm_R0 (fr us sb : Nat) (mk kk xl fp fa fh : Nat → Nat) (sl : Nat → Int32) (c : Nat) : Prop := c < us ∧ ∃ f s, f < fr ∧ s < 16 ∧ sm_rtb mk kk xl fp fa fh f s = true ∧ sl (f * 16 + s) = nI (sb + 1 + c)
def sm_E0 (us sb : Nat) (cl cr : Nat → Int32) (c d : Nat) : Prop := c < us ∧ d < us ∧ (cl (sb + 1 + c) = nI (sb + 1 + d) ∨ cr (sb + 1 + c) = nI (sb + 1 + d))
def sm_RX (fr us sb : Nat) (mk kk xl fp fa fh : Nat → Nat) (sl cl cr : Nat → Int32) (c : Nat) : Prop := sm_ls (sm_R0 fr us sb mk kk xl fp fa fh sl) (sm_E0 us sb cl cr) c
theorem sm_RXu {c : Nat} (h : sm_RX fr us sb mk kk xl fp fa fh sl cl cr c) : c < us := sm_ls_i h (fun c => c < us) (fun _ h => h.1) (fun _ _ _ h => h.2.1)
/-- the bit of a cell -/
def sm_va (us sb : Nat) (a : Int32) : Prop := a = 0 ∨ ∃ c, c < us ∧ a = nI (sb + 1 + c)
theorem sm_VRa {a b : Int32} (h : sm_VR us sb cb a b) : sm_va us sb a := by
  rcases h with h | ⟨c, h1, h2, _⟩
  · exact Or.inl h.1
  · exact Or.inr ⟨c, h1, h2⟩
theorem sm_xcb {post : Int32 → Prop} {a : Int32} (hu : us ≤ 16) (hb : sb ≤ 16) (ha : sm_va us sb a) (h0 : a = 0 → post 0) (h1 : ∀ c, c < us → a = nI (sb + 1 + c) → post (nI (2 ^ c))) : wpX_cellBit post (xle, xpe, nI cp, nI lm, sta, nI np, opn, nI nt, xch, xck, xbc, nI fr, nI sb, nI us, xcb, xcc, col, nI bo, nI oc, res, sm_n pm, sm_n vs, sm_n mk, sm_k gl, sm_n fi, sm_n tk, sm_n xo, sm_n (sm_ar tk), sm_n xj, sm_n ow, sm_n xh, sm_n xk, sm_n xl, xbk, xbp, xbh, sm_n fp, sm_n fa, sl, cn, cl, cr, sm_n cb, fw, ou) a := by
  rcases ha with e | ⟨c, hc, e⟩
  · exact nm_e (br_t e (h0 e))
  · have e2 : a - nI sb - 1 = nI c := by
      rw [e, pk_sub (by omega), sm_sb1 (by omega)]
      congr 1
      omega
    refine nm_r e2 (br_f ?_ (br_f (nI_pos (by omega)) (br_t (nI_lt hc (by omega)) ?_)))
    · rw [e]; exact nI_ne0 (by omega) (by omega)
    · rw [sm_one (by omega)]
      exact h1 c hc e
end
end
section
/-! the component's reachable cells -/
section
variable {xle xpe sta opn xch xck xbc xcb xcc col res yh yd : Int32} {cp lm np nt fr sb us bo oc : Nat} {pm vs mk fi tk xo xj ow xh xk xl fp fa fh cb : Nat → Nat} {gl : Nat → Bool} {xbk xbp xbh sl cn cl cr fw ou yt yb ys yr lo st he nu lf rg : Nat → Int32} {hh kk dp : Nat → Nat} {pt hd : Nat → Nat → Nat}
variable {f s : Nat} {RXp : Nat → Prop}
def sm_MI (RXp : Nat → Prop) (M : Nat) : Prop := M < 65536 ∧ ∀ c, M.testBit c = true → RXp c
def sm_sub (M M' : Nat) : Prop := ∀ c, M.testBit c = true → M'.testBit c = true
theorem sm_inj {b c d : Nat} (hb : b ≤ 16) (hc : c < 100) (hd : d < 100) (e : nI (b + 1 + c) = nI (b + 1 + d)) : c = d := by
  have := (nI_eq (by omega) (by omega)).mp e
  omega
theorem sm_xor {K : Int32 → Prop} {a : Int32} {M : Nat} (hu : us ≤ 16) (hb : sb ≤ 16) (ha : sm_va us sb a) (hM : sm_MI RXp M) (hR : ∀ c, c < us → a = nI (sb + 1 + c) → RXp c)
    (h : ∀ M', sm_MI RXp M' → sm_sub M M' → (∀ c, c < us → a = nI (sb + 1 + c) → M'.testBit c = true) → K (nI M')) : wpX_cellBit (fun r => ∀ y, y = nI M ||| r → K y) (xle, xpe, nI cp, nI lm, sta, nI np, opn, nI nt, xch, xck, xbc, nI fr, nI sb, nI us, xcb, xcc, col, nI bo, nI oc, res, sm_n pm, sm_n vs, sm_n mk, sm_k gl, sm_n fi, sm_n tk, sm_n xo, sm_n (sm_ar tk), sm_n xj, sm_n ow, sm_n xh, sm_n xk, sm_n xl, xbk, xbp, xbh, sm_n fp, sm_n fa, sl, cn, cl, cr, sm_n cb, fw, ou) a := by
  refine sm_xcb hu hb ha (fun e => nm_r (e' := nI M) ?_ (h M hM (fun _ z => z) (fun c hc e2 => ?_))) (fun c hc e => nm_r (sm_or _ _) (h _ ⟨?_, fun d hd => ?_⟩ (fun d hd => ?_) (fun d hd e2 => ?_)))
  · have := sm_or M 0
    rw [Nat.or_zero] at this
    exact this
  · rw [e] at e2
    have := (nI_eq (a := 0) (by omega) (by omega)).mp e2
    omega
  · exact Nat.or_lt_two_pow (n := 16) hM.1 (Nat.pow_lt_pow_right (by decide) (by omega))
  · rw [Nat.testBit_or, Nat.testBit_two_pow, Bool.or_eq_true, decide_eq_true_eq] at hd
    rcases hd with z | z
    · exact hM.2 d z
    · rw [← z]; exact hR c hc e
  · rw [Nat.testBit_or, hd, Bool.true_or]
  · rw [e] at e2
    have := sm_inj hb (by omega) (by omega) e2
    rw [Nat.testBit_or, Nat.testBit_two_pow, decide_eq_true this, Bool.or_true]
/-- the slots of a frame -/
theorem sm_xr21 {post : Int32 → Prop} {J : Int32 → Int32 → Prop} {RM : Nat} (hu : us ≤ 16) (hb : sb ≤ 16) (hf : f < 8) (hRM : RM < 65536) (hv : ∀ s, s < 16 → RM.testBit s = true → sm_va us sb (sl (f * 16 + s))) (hR : ∀ s, s < 16 → RM.testBit s = true → ∀ c, c < us → sl (f * 16 + s) = nI (sb + 1 + c) → RXp c) :
    ∀ m s M, s ≤ 16 → 16 - s < m → sm_MI RXp M → (∀ M', sm_MI RXp M' → sm_sub M M' → (∀ s', s ≤ s' → s' < 16 → RM.testBit s' = true → ∀ c, c < us → sl (f * 16 + s') = nI (sb + 1 + c) → M'.testBit c = true) → J (nI M') (nI (f + 1))) →
    wX_reachableCells_21 post J (nI f) (nI RM) xle xpe (nI cp) (nI lm) sta (nI np) opn (nI nt) xch xck xbc (nI fr) (nI sb) (nI us) xcb xcc col (nI bo) (nI oc) res (sm_n pm) (sm_n vs) (sm_n mk) (sm_k gl) (sm_n fi) (sm_n tk) (sm_n xo) (sm_n (sm_ar tk)) (sm_n xj) (sm_n ow) (sm_n xh) (sm_n xk) (sm_n xl) xbk xbp xbh (sm_n fp) (sm_n fa) sl cn cl cr (sm_n cb) fw ou m (nI M) (nI s) := by
  intro m
  induction m with
  | zero => intro s M _ h; omega
  | succ m ih =>
    intro s M hs hm hM hJ
    refine pk_le 16 s (fun z => nm_r (nI_1 f) (hJ M hM (fun _ z => z) (fun s' a b => by omega))) (fun z => ?_)
    rw [sm_bit (by omega) (by omega)]
    refine ek_if sm_bz (fun e => nm_r (nI_1 s) (ih (s + 1) M (by omega) (by omega) hM (fun M' a b c => hJ M' a b (fun s' s1 s2 s3 => ?_)))) (fun e => ?_)
    · by_cases es : s' = s
      · rw [es, e] at s3; cases s3
      · exact c s' (by omega) s2 s3
    · have e : RM.testBit s = true := by
        cases h : RM.testBit s
        · exact absurd h e
        · rfl
      rw [sm_mu16, nI_add, nI_clamp (show f * 16 + s < 2 ^ 31 by omega)]
      refine And.intro (vp_in_nI (by omega) (by decide)) (sm_xor hu hb (hv s z e) hM (hR s z e) (fun M' a b c => nm_r (nI_1 s) (ih (s + 1) M' (by omega) (by omega) a (fun M'' a' b' c' => hJ M'' a' (fun c hc => b' c (b c hc)) (fun s' s1 s2 s3 => ?_)))))
      by_cases es : s' = s
      · subst es
        exact fun d hd e2 => b' d (c d hd e2)
      · exact c' s' (by omega) s2 s3
/-- all frames -/
theorem sm_xr4 {post : Int32 → Prop} (hP : sm_PG 0 np nt pm vs mk gl fi tk xo xj ow hh kk dp pt hd) (hxx : ∀ i, i < nt → xh i = hh i ∧ xk i = kk i) (hxl : ∀ i, i < nt → xl i < 256) (h8 : fr ≤ 8) (hu : us ≤ 16) (hb : sb ≤ 16)
    (hF : ∀ f, f < fr → sm_FR np nt fr us sb pm vs mk tk ow hh kk xl fp fa fh cb sl lo st f)
    (hR : ∀ f s, f < fr → s < 16 → sm_rtb mk kk xl fp fa fh f s = true → ∀ c, c < us → sl (f * 16 + s) = nI (sb + 1 + c) → RXp c) :
    ∀ m f M, f ≤ fr → fr - f < m → sm_MI RXp M → (∀ M', sm_MI RXp M' → sm_sub M M' → (∀ f' s', f ≤ f' → f' < fr → s' < 16 → sm_rtb mk kk xl fp fa fh f' s' = true → ∀ c, c < us → sl (f' * 16 + s') = nI (sb + 1 + c) → M'.testBit c = true) → ∃ n72, wX_reachableCells_72 post xle xpe (nI cp) (nI lm) sta (nI np) opn (nI nt) xch xck xbc (nI fr) (nI sb) (nI us) xcb xcc col (nI bo) (nI oc) res (sm_n pm) (sm_n vs) (sm_n mk) (sm_k gl) (sm_n fi) (sm_n tk) (sm_n xo) (sm_n (sm_ar tk)) (sm_n xj) (sm_n ow) (sm_n xh) (sm_n xk) (sm_n xl) xbk xbp xbh (sm_n fp) (sm_n fa) sl cn cl cr (sm_n cb) fw ou n72 (nI M') 0 0) →
    wX_reachableCells_4 post xle xpe (nI cp) (nI lm) sta (nI np) opn (nI nt) xch xck xbc (nI fr) (nI sb) (nI us) xcb xcc col (nI bo) (nI oc) res (sm_n pm) (sm_n vs) (sm_n mk) (sm_k gl) (sm_n fi) (sm_n tk) (sm_n xo) (sm_n (sm_ar tk)) (sm_n xj) (sm_n ow) (sm_n xh) (sm_n xk) (sm_n xl) xbk xbp xbh (sm_n fp) (sm_n fa) sl cn cl cr (sm_n cb) fw ou m (nI M) (nI f) := by
  intro m
  induction m with
  | zero => intro f M _ h; omega
  | succ m ih =>
    intro f M hf hm hM hJ
    refine pk_le fr f (fun z => hJ M hM (fun _ z => z) (fun f' s' a b => by omega)) (fun z => ?_)
    have hFf := hF f z
    have hx := hxl _ hFf.1.2.1
    have hkb := sm_PH hP (show fa f ≤ nt by have := hFf.1.2.1; omega)
    have hk8 : kk (fa f) < 256 := Nat.lt_of_lt_of_le hkb.2 (sm_p8 hkb.1)
    refine sm_xfr hP hxx h8 z (sm_FSi hFf) ⟨17, sm_xr21 hu hb (by omega) (sm_rmb hx hk8) (fun s hs hr => ?_) (fun s hs hr => ?_) 17 0 M (by omega) (by omega) hM (fun M' a b c => ih (f + 1) M' (by omega) (by omega) a (fun M'' a' b' c' => hJ M'' a' (fun c hc => b' c (b c hc)) (fun f' s' f1 f2 s2 s3 => ?_)))⟩
    · rw [sm_rmt hx] at hr
      have := sm_rtv hP hFf hs hr
      by_cases e : s < 8
      · exact sm_VRa (this.1 e).2
      · exact sm_VRa (this.2 (by omega)).2
    · rw [sm_rmt hx] at hr
      exact hR f s z hs hr
    · by_cases ef : f' = f
      · subst ef
        exact fun d hd e2 => b' d (c s' (Nat.zero_le _) s2 (by rw [sm_rmt hx]; exact s3) d hd e2)
      · exact c' f' s' (by omega) f2 s2 s3
/-- closed masks -/
def sm_mc (us sb : Nat) (cl cr : Nat → Int32) (M c : Nat) : Prop := M.testBit c = true → ∀ d, d < us → (cl (sb + 1 + c) = nI (sb + 1 + d) ∨ cr (sb + 1 + c) = nI (sb + 1 + d)) → M.testBit d = true
def sm_bc (M : Nat) : Nat := sm_cnt (fun c => M.testBit c) 16
theorem sm_bcl {M M' : Nat} (h : sm_sub M M') (h1 : M < 65536) (h2 : M' < 65536) (hn : M' ≠ M) : sm_bc M < sm_bc M' := by
  obtain ⟨v, hv⟩ := Nat.exists_testBit_ne_of_ne hn
  by_cases v8 : v < 16
  · refine sm_cnt_lt 16 (fun c _ hc => h c hc) v v8 ?_ ?_
    · cases e : M.testBit v
      · rfl
      · exact absurd (by rw [e, h v e]) hv
    · cases e : M'.testBit v
      · cases e2 : M.testBit v
        · exact absurd (by rw [e, e2]) hv
        · rw [h v e2] at e; exact absurd e (by decide)
      · rfl
  · rw [sm_tz (n := 16) h1 (by omega), sm_tz (n := 16) h2 (by omega)] at hv
    exact absurd rfl hv
theorem sm_xr88 {post : Int32 → Prop} {J : Int32 → Int32 → Int32 → Prop} {x2 : Int32} {r : Nat} (hu : us ≤ 16) (hb : sb ≤ 16) (hv : ∀ c, c < us → sm_va us sb (cl (sb + 1 + c)) ∧ sm_va us sb (cr (sb + 1 + c)))
    (hR : ∀ c d, RXp c → c < us → d < us → (cl (sb + 1 + c) = nI (sb + 1 + d) ∨ cr (sb + 1 + c) = nI (sb + 1 + d)) → RXp d) :
    ∀ m c M, c ≤ us → us - c < m → sm_MI RXp M → (∀ M', sm_MI RXp M' → sm_sub M M' → (M' = M → ∀ c', c ≤ c' → c' < us → sm_mc us sb cl cr M c') → J (nI M') x2 (nI (r + 1))) →
    wX_reachableCells_88 post J x2 (nI r) xle xpe (nI cp) (nI lm) sta (nI np) opn (nI nt) xch xck xbc (nI fr) (nI sb) (nI us) xcb xcc col (nI bo) (nI oc) res (sm_n pm) (sm_n vs) (sm_n mk) (sm_k gl) (sm_n fi) (sm_n tk) (sm_n xo) (sm_n (sm_ar tk)) (sm_n xj) (sm_n ow) (sm_n xh) (sm_n xk) (sm_n xl) xbk xbp xbh (sm_n fp) (sm_n fa) sl cn cl cr (sm_n cb) fw ou m (nI M) (nI c) := by
  intro m
  induction m with
  | zero => intro c M _ h; omega
  | succ m ih =>
    intro c M hc hm hM hJ
    refine pk_le us c (fun z => nm_r (nI_1 r) (hJ M hM (fun _ z => z) (fun _ c' a b => by omega))) (fun z => ?_)
    have hM1 := hM.1
    rw [sm_bit (by omega) (by omega)]
    refine ek_if sm_bz (fun e => nm_r (nI_1 c) (ih (c + 1) M (by omega) (by omega) hM (fun M' a b c1 => hJ M' a b (fun em c' d1 d2 => ?_)))) (fun e => ?_)
    · by_cases es : c' = c
      · subst es
        intro h; rw [e] at h; cases h
      · exact c1 em c' (by omega) d2
    · have e : M.testBit c = true := by
        cases h : M.testBit c
        · exact absurd h e
        · rfl
      have hRc := hM.2 c e
      obtain ⟨v1, v2⟩ := hv c z
      have ea : nI sb + 1 + nI c = nI (sb + 1 + c) := by rw [nI_1, nI_add]
      refine nm_r ea ?_
      rw [nI_clamp (show sb + 1 + c < 2 ^ 31 by omega)]
      have vp : vp_in (nI (sb + 1 + c)) 33 := vp_in_nI (by omega) (by decide)
      refine And.intro vp (sm_xor (K := fun y => vp_in (nI (sb + 1 + c)) 33 ∧ _) hu hb v1 hM (fun d hd e2 => hR c d hRc z hd (Or.inl e2)) (fun M1 a1 b1 c1 => And.intro vp (sm_xor hu hb v2 a1 (fun d hd e2 => hR c d hRc z hd (Or.inr e2)) (fun M2 a2 b2 c2 => nm_r (nI_1 c) (ih (c + 1) M2 (by omega) (by omega) a2 (fun M' a' b' c' => hJ M' a' (fun d hd => b' d (b2 d (b1 d hd))) (fun em q q1 q2 => ?_)))))))
      have e1 : ∀ d, M2.testBit d = true → M.testBit d = true := fun d hd => by rw [← em]; exact b' d hd
      by_cases es : q = c
      · subst es
        intro _ d hd e3
        rcases e3 with e3 | e3
        · exact e1 d (b2 d (c1 d hd e3))
        · exact e1 d (c2 d hd e3)
      · have e4 : M' = M2 := Nat.eq_of_testBit_eq (fun d => by
          cases h1 : M2.testBit d
          · cases h2 : M'.testBit d
            · rfl
            · rw [em] at h2
              rw [b2 d (b1 d h2)] at h1
              cases h1
          · rw [b' d h1])
        have := c' e4 q (by omega) q2
        rw [← e4, em] at this
        exact this
theorem sm_xr72 {post : Int32 → Prop} (hu : us ≤ 16) (hb : sb ≤ 16) (hv : ∀ c, c < us → sm_va us sb (cl (sb + 1 + c)) ∧ sm_va us sb (cr (sb + 1 + c)))
    (hR : ∀ c d, RXp c → c < us → d < us → (cl (sb + 1 + c) = nI (sb + 1 + d) ∨ cr (sb + 1 + c) = nI (sb + 1 + d)) → RXp d) (M0 : Nat)
    (h : ∀ M, sm_MI RXp M → sm_sub M0 M → (∀ c, c < us → sm_mc us sb cl cr M c) → post (nI M)) :
    ∀ m r M B, r ≤ 16 → 16 < m + r → sm_MI RXp M → sm_sub M0 M → B < 65536 → (M = B → ∀ c, c < us → sm_mc us sb cl cr M c) → (M ≠ B → r + 1 ≤ sm_bc M) →
    wX_reachableCells_72 post xle xpe (nI cp) (nI lm) sta (nI np) opn (nI nt) xch xck xbc (nI fr) (nI sb) (nI us) xcb xcc col (nI bo) (nI oc) res (sm_n pm) (sm_n vs) (sm_n mk) (sm_k gl) (sm_n fi) (sm_n tk) (sm_n xo) (sm_n (sm_ar tk)) (sm_n xj) (sm_n ow) (sm_n xh) (sm_n xk) (sm_n xl) xbk xbp xbh (sm_n fp) (sm_n fa) sl cn cl cr (sm_n cb) fw ou m (nI M) (nI B) (nI r) := by
  intro m
  induction m with
  | zero => intro r M B a b; omega
  | succ m ih =>
    intro r M B hr hm hM h0 hB h1 h2
    have hle : sm_bc M ≤ 16 := sm_cnt_le _ 16
    have hM1 := hM.1
    refine pk_le 16 r (fun z => h M hM h0 (h1 ?_)) (fun z => pk_eq M B (fun e => h M hM h0 (h1 e)) (fun e => ⟨us + 1, ?_⟩))
    · by_cases e : M = B
      · exact e
      · have := h2 e
        omega
    · have h2' := h2 e
      refine sm_xr88 hu hb hv hR (us + 1) 0 M (by omega) (by omega) hM (fun M' a b c => ih (r + 1) M' M (by omega) (by omega) a (fun d hd => b d (h0 d hd)) hM1 (fun e2 q hq => ?_) (fun e2 => ?_))
      · have := c e2 q (Nat.zero_le q) hq
        rw [e2]; exact this
      · have := sm_bcl b hM1 a.1 e2
        omega
theorem sm_xrc {post : Int32 → Prop} (hP : sm_PG 0 np nt pm vs mk gl fi tk xo xj ow hh kk dp pt hd) (hxx : ∀ i, i < nt → xh i = hh i ∧ xk i = kk i) (hxl : ∀ i, i < nt → xl i < 256) (h8 : fr ≤ 8) (hu : us ≤ 16) (hb : sb ≤ 16)
    (hF : ∀ f, f < fr → sm_FR np nt fr us sb pm vs mk tk ow hh kk xl fp fa fh cb sl lo st f) (hv : ∀ c, c < us → sm_va us sb (cl (sb + 1 + c)) ∧ sm_va us sb (cr (sb + 1 + c)))
    (h : ∀ M, M < 65536 → (∀ c, c < us → (M.testBit c = true ↔ sm_RX fr us sb mk kk xl fp fa fh sl cl cr c)) → post (nI M)) : wpX_reachableCells post (xle, xpe, nI cp, nI lm, sta, nI np, opn, nI nt, xch, xck, xbc, nI fr, nI sb, nI us, xcb, xcc, col, nI bo, nI oc, res, sm_n pm, sm_n vs, sm_n mk, sm_k gl, sm_n fi, sm_n tk, sm_n xo, sm_n (sm_ar tk), sm_n xj, sm_n ow, sm_n xh, sm_n xk, sm_n xl, xbk, xbp, xbh, sm_n fp, sm_n fa, sl, cn, cl, cr, sm_n cb, fw, ou) := by
  have hR1 : ∀ f s, f < fr → s < 16 → sm_rtb mk kk xl fp fa fh f s = true → ∀ c, c < us → sl (f * 16 + s) = nI (sb + 1 + c) → sm_RX fr us sb mk kk xl fp fa fh sl cl cr c := fun f s a b c d e1 e2 => sm_ls_r ⟨e1, f, s, a, b, c, e2⟩
  have hR2 : ∀ c d, sm_RX fr us sb mk kk xl fp fa fh sl cl cr c → c < us → d < us → (cl (sb + 1 + c) = nI (sb + 1 + d) ∨ cr (sb + 1 + c) = nI (sb + 1 + d)) → sm_RX fr us sb mk kk xl fp fa fh sl cl cr d := fun c d a b e1 e2 => sm_ls_e a ⟨b, e1, e2⟩
  have z0 : sm_MI (sm_RX fr us sb mk kk xl fp fa fh sl cl cr) 0 := ⟨by decide, fun c hc => by rw [Nat.zero_testBit] at hc; cases hc⟩
  refine ⟨fr + 1, sm_xr4 hP hxx hxl h8 hu hb hF hR1 (fr + 1) 0 0 (by omega) (by omega) z0 (fun M a b c => ⟨17, sm_xr72 hu hb hv hR2 M (fun M' a' b' c' => h M' a'.1 (fun q hq => ⟨a'.2 q, fun hx => ?_⟩)) 17 0 M 0 (by omega) (by omega) a (fun _ z => z) (by omega) (fun e q hq hm => ?_) (fun e => ?_)⟩)⟩
  · have := sm_ls_i hx (fun q => q < us → M'.testBit q = true) (fun y hy _ => ?_) (fun y z hy hE hz => ?_)
    · exact this hq
    · obtain ⟨y1, f, s, f1, s1, s2, s3⟩ := hy
      exact b' y (c f s (Nat.zero_le f) f1 s1 s2 y y1 s3)
    · exact c' y hE.1 (hy hE.1) z hE.2.1 hE.2.2
  · rw [e, Nat.zero_testBit] at hm; cases hm
  · have := sm_bcl (M := 0) (M' := M) (fun q hq => by rw [Nat.zero_testBit] at hq; cases hq) (by decide) a.1 e
    omega
end
end
section
/-! the component's collection: copying one cell -/
section
variable {xle xpe sta opn xch xck xbc xcb xcc col res yh yd : Int32} {cp lm np nt fr sb us bo oc : Nat} {pm vs mk fi tk xo xj ow xh xk xl fp fa fh cb : Nat → Nat} {gl : Nat → Bool} {xbk xbp xbh sl cn cl cr fw ou yt yb ys yr lo st he nu lf rg : Nat → Int32} {hh kk dp : Nat → Nat} {pt hd : Nat → Nat → Nat}
variable {f s : Nat} {RXp : Nat → Prop} {cb0 : Nat → Nat} {cn0 cl0 cr0 sl0 : Nat → Int32}
def sm_EV (us sb : Nat) (fw : Nat → Int32) (a r : Int32) : Prop := (a = 0 ∧ r = 0) ∨ ∃ x, x < us ∧ a = nI (sb + 1 + x) ∧ fw (sb + 1 + x) ≠ 0 ∧ r = fw (sb + 1 + x)
def sm_fm (us sb : Nat) (fw fw' : Nat → Int32) : Prop := ∀ x, x < us → fw (sb + 1 + x) ≠ 0 → fw' (sb + 1 + x) = fw (sb + 1 + x)
theorem sm_EVm {fw' : Nat → Int32} {a r : Int32} (h : sm_EV us sb fw a r) (m : sm_fm us sb fw fw') : sm_EV us sb fw' a r := by
  rcases h with h | ⟨x, x1, x2, x3, x4⟩
  · exact Or.inl h
  · have := m x x1 x3
    exact Or.inr ⟨x, x1, x2, by rw [this]; exact x3, by rw [this]; exact x4⟩
def sm_GI (RXp : Nat → Prop) (us sb cc : Nat) (src cb0 cb : Nat → Nat) (cn0 cl0 cr0 fw cn cl cr : Nat → Int32) (sL sR : Nat) : Prop :=
  cc = sm_cnt (fun a => decide (fw (sb + 1 + a) ≠ 0)) us ∧
  (∀ k, k < cc → src k < us ∧ RXp (src k) ∧ fw (sb + 1 + src k) = nI (16 - sb + 1 + k) ∧ cb (16 - sb + 1 + k) = cb0 (sb + 1 + src k) ∧ cn (16 - sb + 1 + k) = cn0 (sb + 1 + src k)) ∧
  (∀ a, a < us → fw (sb + 1 + a) ≠ 0 → ∃ k, k < cc ∧ src k = a) ∧
  (∀ a, a < us → cb (sb + 1 + a) = cb0 (sb + 1 + a) ∧ cn (sb + 1 + a) = cn0 (sb + 1 + a) ∧ cl (sb + 1 + a) = cl0 (sb + 1 + a) ∧ cr (sb + 1 + a) = cr0 (sb + 1 + a)) ∧
  (∀ k, k < cc → (k < sL → sm_EV us sb fw (cl0 (sb + 1 + src k)) (cl (16 - sb + 1 + k))) ∧ (sL ≤ k → cl (16 - sb + 1 + k) = cl0 (sb + 1 + src k)) ∧ (k < sR → sm_EV us sb fw (cr0 (sb + 1 + src k)) (cr (16 - sb + 1 + k))) ∧ (sR ≤ k → cr (16 - sb + 1 + k) = cr0 (sb + 1 + src k))) ∧ sL ≤ cc ∧ sR ≤ cc
/-- the outcome of a copy -/
def sm_GO (RXp : Nat → Prop) (us sb cc : Nat) (cb0 : Nat → Nat) (cn0 cl0 cr0 fw cl cr : Nat → Int32) (sL sR : Nat) (cc' : Nat) (src' cb' : Nat → Nat) (fw' cn' cl' cr' : Nat → Int32) : Prop :=
  sm_GI RXp us sb cc' src' cb0 cb' cn0 cl0 cr0 fw' cn' cl' cr' sL sR ∧ cc ≤ cc' ∧ sm_fm us sb fw fw' ∧ (∀ k, k < cc → cl' (16 - sb + 1 + k) = cl (16 - sb + 1 + k) ∧ cr' (16 - sb + 1 + k) = cr (16 - sb + 1 + k))
theorem sm_xev {cc sL sR : Nat} {src : Nat → Nat} {a : Int32} (hu : us ≤ 16) (hsb : sb = 0 ∨ sb = 16) (G : sm_GI RXp us sb cc src cb0 cb cn0 cl0 cr0 fw cn cl cr sL sR) (ha : sm_va us sb a) (hR : ∀ x, x < us → a = nI (sb + 1 + x) → RXp x) :
    ∃ (r : Int32) (cc' : Nat) (src' cb' : Nat → Nat) (fw' cn' cl' cr' : Nat → Int32), sm_GO RXp us sb cc cb0 cn0 cl0 cr0 fw cl cr sL sR cc' src' cb' fw' cn' cl' cr' ∧ (∃ k, k < cc' + 1) ∧ sm_EV us sb fw' a r ∧
    ∀ post : Int32 → SX → Prop, post r (xle, xpe, nI cp, nI lm, sta, nI np, opn, nI nt, xch, xck, xbc, nI fr, nI sb, nI us, nI (16 - sb), nI cc', col, nI bo, nI oc, res, sm_n pm, sm_n vs, sm_n mk, sm_k gl, sm_n fi, sm_n tk, sm_n xo, sm_n (sm_ar tk), sm_n xj, sm_n ow, sm_n xh, sm_n xk, sm_n xl, xbk, xbp, xbh, sm_n fp, sm_n fa, sl, cn', cl', cr', sm_n cb', fw', ou) → wpX_evacuate post (xle, xpe, nI cp, nI lm, sta, nI np, opn, nI nt, xch, xck, xbc, nI fr, nI sb, nI us, nI (16 - sb), nI cc, col, nI bo, nI oc, res, sm_n pm, sm_n vs, sm_n mk, sm_k gl, sm_n fi, sm_n tk, sm_n xo, sm_n (sm_ar tk), sm_n xj, sm_n ow, sm_n xh, sm_n xk, sm_n xl, xbk, xbp, xbh, sm_n fp, sm_n fa, sl, cn, cl, cr, sm_n cb, fw, ou) a := by
  obtain ⟨g1, g2, g3, g4, g5, g6, g7⟩ := id G
  rcases ha with e | ⟨x, hx, e⟩
  · exact ⟨0, cc, src, cb, fw, cn, cl, cr, ⟨G, Nat.le_refl _, fun _ _ _ => rfl, fun _ _ => ⟨rfl, rfl⟩⟩, ⟨0, by omega⟩, Or.inl ⟨e, rfl⟩, fun post h => br_t (by rw [e]; decide) h⟩
  · have ea : ¬ a < 1 := by rw [e]; exact nI_nlt (b := 1) (by omega) (by omega)
    have ea2 : a ≤ 32 := by rw [e]; exact nI_le (b := 32) (by omega) (by decide)
    have va : vp_in a 33 := by rw [e]; exact vp_in_nI (by omega) (by decide)
    have ca : a.toNatClampNeg = sb + 1 + x := by rw [e]; exact nI_clamp (by omega)
    by_cases e0 : fw (sb + 1 + x) = 0
    · have hcu : cc < us := by
        rw [g1]
        have h1 := sm_cnt_lt (P := fun a => decide (fw (sb + 1 + a) ≠ 0)) (Q := fun _ => true) us (fun _ _ _ => rfl) x hx (decide_eq_false (by simp [e0])) rfl
        have h2 := sm_cnt_le (fun _ => true) us
        omega
      have et : nI (16 - sb) + nI (cc + 1) = nI (16 - sb + 1 + cc) := by rw [nI_add]; congr 1; omega
      have vt : vp_in (nI (16 - sb + 1 + cc)) 33 := vp_in_nI (by omega) (by decide)
      have ct : (nI (16 - sb + 1 + cc)).toNatClampNeg = 16 - sb + 1 + cc := nI_clamp (by omega)
      have dj : ∀ a, a < us → sb + 1 + a ≠ 16 - sb + 1 + cc := fun a ha => by omega
      have dk : ∀ k, k < cc → 16 - sb + 1 + k ≠ 16 - sb + 1 + cc := fun k hk => by omega
      have hne : ¬ nI (16 - sb + 1 + cc) = 0 := nI_ne0 (by omega) (by omega)
      have fm : sm_fm us sb fw (upd fw (sb + 1 + x) (nI (16 - sb + 1 + cc))) := fun y hy hf => by
        by_cases ey : y = x
        · subst ey; exact absurd e0 hf
        · rw [pk_un (by omega)]
      have sx : ∀ k, k < cc → src k ≠ x := fun k hk z => by
        have := (g2 k hk).2.2.1
        rw [z, e0] at this
        exact nI_ne0 (n := 16 - sb + 1 + k) (by omega) (by omega) this.symm
      refine ⟨nI (16 - sb + 1 + cc), cc + 1, sm_u src cc x, sm_u cb (16 - sb + 1 + cc) (cb (sb + 1 + x)), upd fw (sb + 1 + x) (nI (16 - sb + 1 + cc)), upd cn (16 - sb + 1 + cc) (cn (sb + 1 + x)), upd cl (16 - sb + 1 + cc) (cl (sb + 1 + x)), upd cr (16 - sb + 1 + cc) (cr (sb + 1 + x)), ⟨⟨?_, fun k hk => ?_, fun y hy hf => ?_, fun y hy => ?_, fun k hk => ?_, by omega, by omega⟩, by omega, fm, fun k hk => ?_⟩, ⟨0, by omega⟩, Or.inr ⟨x, hx, e, by rw [pk_us]; exact hne, by rw [pk_us]⟩, fun post h => ?_⟩
      · have h1 := sm_cnt_set (P := fun a => decide (fw (sb + 1 + a) ≠ 0)) (k := x) us hx (decide_eq_false (by simp [e0]))
        rw [← g1] at h1
        rw [← h1]
        refine sm_cnt_congr us (fun i hi => ?_)
        by_cases ei : i = x
        · subst ei
          rw [sm_us]
          show true = decide (upd fw (sb + 1 + i) (nI (16 - sb + 1 + cc)) (sb + 1 + i) ≠ 0)
          rw [pk_us, decide_eq_true hne]
        · rw [sm_un ei]
          show decide (fw (sb + 1 + i) ≠ 0) = decide (upd fw (sb + 1 + x) (nI (16 - sb + 1 + cc)) (sb + 1 + i) ≠ 0)
          rw [pk_un (by omega)]
      · by_cases ek : k = cc
        · subst ek
          rw [sm_us, pk_us, sm_us, pk_us, (g4 x hx).1, (g4 x hx).2.1]
          exact ⟨hx, hR x hx e, rfl, rfl, rfl⟩
        · rw [sm_un ek, sm_un (dk k (by omega)), pk_un (dk k (by omega)), pk_un (by have := sx k (by omega); omega)]
          exact g2 k (by omega)
      · by_cases ey : y = x
        · exact ⟨cc, by omega, by rw [sm_us, ey]⟩
        · rw [pk_un (by omega)] at hf
          obtain ⟨k, k1, k2⟩ := g3 y hy hf
          exact ⟨k, by omega, by rw [sm_un (by omega)]; exact k2⟩
      · rw [sm_un (dj y hy), pk_un (dj y hy), pk_un (dj y hy), pk_un (dj y hy)]
        exact g4 y hy
      · by_cases ek : k = cc
        · subst ek
          rw [sm_us, pk_us, pk_us, (g4 x hx).2.2.1, (g4 x hx).2.2.2]
          exact ⟨fun z => by omega, fun _ => rfl, fun z => by omega, fun _ => rfl⟩
        · rw [sm_un ek, pk_un (dk k (by omega)), pk_un (dk k (by omega))]
          obtain ⟨a1, a2, a3, a4⟩ := g5 k (by omega)
          exact ⟨fun z => sm_EVm (a1 z) fm, a2, fun z => sm_EVm (a3 z) fm, a4⟩
      · rw [pk_un (dk k hk), pk_un (dk k hk)]
        exact ⟨rfl, rfl⟩
      · refine br_f ea (br_t ea2 (And.intro va ?_))
        rw [ca]
        refine br_t e0 (br_t (nI_lt (b := 16) (by omega) (by decide)) (nm_r (nI_1 cc) (nm_r et ?_)))
        rw [ct]
        exact ⟨va, vt, nm_e ⟨va, vt, nm_e ⟨va, vt, nm_e ⟨va, vt, nm_r (by rw [sm_nap]; exact sm_nu _ _ _) ⟨va, nm_e h⟩⟩⟩⟩⟩
    · refine ⟨fw (sb + 1 + x), cc, src, cb, fw, cn, cl, cr, ⟨G, Nat.le_refl _, fun _ _ _ => rfl, fun _ _ => ⟨rfl, rfl⟩⟩, ⟨0, by omega⟩, Or.inr ⟨x, hx, e, e0, rfl⟩, fun post h => ?_⟩
      refine br_f ea (br_t ea2 (And.intro va ?_))
      rw [ca]
      exact br_f e0 ⟨va, h⟩
/-- storing an evacuated link -/
theorem sm_GIL {cc sL sR : Nat} {src : Nat → Nat} {r : Int32} (hsb : sb = 0 ∨ sb = 16) (hu : us ≤ 16) (G : sm_GI RXp us sb cc src cb0 cb cn0 cl0 cr0 fw cn cl cr sL sR) (hL : sL < cc) (he : sm_EV us sb fw (cl0 (sb + 1 + src sL)) r) : sm_GI RXp us sb cc src cb0 cb cn0 cl0 cr0 fw cn (upd cl (16 - sb + 1 + sL) r) cr (sL + 1) sR := by
  obtain ⟨g1, g2, g3, g4, g5, g6, g7⟩ := G
  have hcc : cc ≤ us := by rw [g1]; exact sm_cnt_le _ _
  refine ⟨g1, g2, g3, fun a ha => ?_, fun k hk => ?_, hL, g7⟩
  · rw [pk_un (by omega)]; exact g4 a ha
  · obtain ⟨a1, a2, a3, a4⟩ := g5 k hk
    by_cases ek : k = sL
    · subst ek
      rw [pk_us]
      exact ⟨fun _ => he, fun z => by omega, a3, a4⟩
    · rw [pk_un (by omega)]
      exact ⟨fun z => a1 (by omega), fun z => a2 (by omega), a3, a4⟩
theorem sm_GIR {cc sL sR : Nat} {src : Nat → Nat} {r : Int32} (hsb : sb = 0 ∨ sb = 16) (hu : us ≤ 16) (G : sm_GI RXp us sb cc src cb0 cb cn0 cl0 cr0 fw cn cl cr sL sR) (hL : sR < cc) (he : sm_EV us sb fw (cr0 (sb + 1 + src sR)) r) : sm_GI RXp us sb cc src cb0 cb cn0 cl0 cr0 fw cn cl (upd cr (16 - sb + 1 + sR) r) sL (sR + 1) := by
  obtain ⟨g1, g2, g3, g4, g5, g6, g7⟩ := G
  have hcc : cc ≤ us := by rw [g1]; exact sm_cnt_le _ _
  refine ⟨g1, g2, g3, fun a ha => ?_, fun k hk => ?_, g6, hL⟩
  · rw [pk_un (show sb + 1 + a ≠ 16 - sb + 1 + sR by omega)]; exact g4 a ha
  · obtain ⟨a1, a2, a3, a4⟩ := g5 k hk
    by_cases ek : k = sR
    · subst ek
      rw [pk_us]
      exact ⟨a1, a2, fun _ => he, fun z => by omega⟩
    · rw [pk_un (by omega)]
      exact ⟨a1, a2, fun z => a3 (by omega), fun z => a4 (by omega)⟩
end
end
section
/-! the component's collection: the loops -/
section
variable {xle xpe sta opn xch xck xbc xcb xcc col res yh yd : Int32} {cp lm np nt fr sb us bo oc : Nat} {pm vs mk fi tk xo xj ow xh xk xl fp fa fh cb : Nat → Nat} {gl : Nat → Bool} {xbk xbp xbh sl cn cl cr fw ou yt yb ys yr lo st he nu lf rg : Nat → Int32} {hh kk dp : Nat → Nat} {pt hd : Nat → Nat → Nat}
variable {f s : Nat} {RXp : Nat → Prop} {cb0 : Nat → Nat} {cn0 cl0 cr0 sl0 : Nat → Int32}
/-- the slots of a frame -/
theorem sm_xm60 {RM : Nat} (hu : us ≤ 16) (hsb : sb = 0 ∨ sb = 16) (hf : f < 8) (hRM : RM < 65536) (hv : ∀ s, s < 16 → RM.testBit s = true → sm_va us sb (sl0 (f * 16 + s))) (hR : ∀ s, s < 16 → RM.testBit s = true → ∀ c, c < us → sl0 (f * 16 + s) = nI (sb + 1 + c) → RXp c) :
    ∀ m s cc src cb fw cn cl cr sl, s ≤ 16 → 16 - s < m → sm_GI RXp us sb cc src cb0 cb cn0 cl0 cr0 fw cn cl cr 0 0 → (∀ s', s ≤ s' → s' < 16 → sl (f * 16 + s') = sl0 (f * 16 + s')) →
    ∃ (cc' : Nat) (src' cb' : Nat → Nat) (fw' cn' cl' cr' sl' : Nat → Int32), sm_GI RXp us sb cc' src' cb0 cb' cn0 cl0 cr0 fw' cn' cl' cr' 0 0 ∧ sm_fm us sb fw fw' ∧ (∀ j, ¬ (f * 16 + s ≤ j ∧ j < f * 16 + 16) → sl' j = sl j) ∧
      (∀ s', s ≤ s' → s' < 16 → (RM.testBit s' = true → sm_EV us sb fw' (sl0 (f * 16 + s')) (sl' (f * 16 + s'))) ∧ (RM.testBit s' = false → sl' (f * 16 + s') = sl0 (f * 16 + s'))) ∧
      ∀ (post : SX → Prop) (J : Int32 → Int32 → Int32 → Int32 → Int32 → Int32 → Int32 → Int32 → Int32 → Int32 → Int32 → Int32 → Int32 → Int32 → Int32 → Int32 → Int32 → Int32 → Int32 → Int32 → Int32 → (Nat → Int32) → (Nat → Int32) → (Nat → Int32) → (Nat → Int32) → (Nat → Int32) → (Nat → Int32) → (Nat → Int32) → (Nat → Int32) → (Nat → Int32) → (Nat → Int32) → (Nat → Int32) → (Nat → Int32) → (Nat → Int32) → (Nat → Int32) → (Nat → Int32) → (Nat → Int32) → (Nat → Int32) → (Nat → Int32) → (Nat → Int32) → (Nat → Int32) → (Nat → Int32) → (Nat → Int32) → (Nat → Int32) → (Nat → Int32) → (Nat → Int32) → Prop), J (nI (f + 1)) xle xpe (nI cp) (nI lm) sta (nI np) opn (nI nt) xch xck xbc (nI fr) (nI sb) (nI us) (nI (16 - sb)) (nI cc') col (nI bo) (nI oc) res (sm_n pm) (sm_n vs) (sm_n mk) (sm_k gl) (sm_n fi) (sm_n tk) (sm_n xo) (sm_n (sm_ar tk)) (sm_n xj) (sm_n ow) (sm_n xh) (sm_n xk) (sm_n xl) xbk xbp xbh (sm_n fp) (sm_n fa) sl' cn' cl' cr' (sm_n cb') fw' ou → wX_moveLiveCells_60 post J (nI f) (nI RM) m (nI s) xle xpe (nI cp) (nI lm) sta (nI np) opn (nI nt) xch xck xbc (nI fr) (nI sb) (nI us) (nI (16 - sb)) (nI cc) col (nI bo) (nI oc) res (sm_n pm) (sm_n vs) (sm_n mk) (sm_k gl) (sm_n fi) (sm_n tk) (sm_n xo) (sm_n (sm_ar tk)) (sm_n xj) (sm_n ow) (sm_n xh) (sm_n xk) (sm_n xl) xbk xbp xbh (sm_n fp) (sm_n fa) sl cn cl cr (sm_n cb) fw ou := by
  intro m
  induction m with
  | zero => intro s cc src cb fw cn cl cr sl _ h; omega
  | succ m ih =>
    intro s cc src cb fw cn cl cr sl hs hm G hsl
    by_cases e16 : s = 16
    · refine ⟨cc, src, cb, fw, cn, cl, cr, sl, G, fun _ _ _ => rfl, fun _ _ => rfl, fun s' a b => by omega, fun post J h => ?_⟩
      exact br_t (nI_le (a := 16) (by omega) (by omega)) (nm_r (nI_1 f) h)
    · have n16 : ¬ (16 : Int32) ≤ nI s := nI_ge (b := 16) (by omega) (by decide)
      have eb : (nI RM >>> (nI s &&& 31)) &&& 1 = nI (RM.testBit s).toNat := sm_bit (by omega) (by omega)
      by_cases hbit : RM.testBit s = true
      · have es := hsl s (Nat.le_refl s) (by omega)
        have hva := hv s (by omega) hbit
        obtain ⟨r, cc1, src1, cb1, fw1, cn1, cl1, cr1, ⟨G1, c1, m1, _⟩, _, E1, W1⟩ := sm_xev (xle := xle) (xpe := xpe) (cp := cp) (lm := lm) (sta := sta) (np := np) (opn := opn) (nt := nt) (xch := xch) (xck := xck) (xbc := xbc) (fr := fr) (col := col) (bo := bo) (oc := oc) (res := res) (pm := pm) (vs := vs) (mk := mk) (gl := gl) (fi := fi) (tk := tk) (xo := xo) (xj := xj) (ow := ow) (xh := xh) (xk := xk) (xl := xl) (xbk := xbk) (xbp := xbp) (xbh := xbh) (fp := fp) (fa := fa) (sl := sl) (ou := ou) hu hsb G hva (hR s (by omega) hbit)
        obtain ⟨cc', src', cb', fw', cn', cl', cr', sl', G', m', s1, s2, W⟩ := ih (s + 1) cc1 src1 cb1 fw1 cn1 cl1 cr1 (upd sl (f * 16 + s) r) (by omega) (by omega) G1 (fun s' a b => by rw [pk_un (by omega)]; exact hsl s' (by omega) b)
        refine ⟨cc', src', cb', fw', cn', cl', cr', sl', G', fun x hx hf => ?_, fun j hj => ?_, fun s' a b => ?_, fun post J h => ?_⟩
        · have e1 := m1 x hx hf
          rw [m' x hx (by rw [e1]; exact hf), e1]
        · rw [s1 j (by omega), pk_un (by omega)]
        · by_cases e : s' = s
          · subst e
            rw [s1 _ (by omega), pk_us]
            exact ⟨fun _ => sm_EVm E1 m', fun z => by rw [hbit] at z; cases z⟩
          · exact s2 s' (by omega) b
        · refine br_f n16 ?_
          rw [eb, sm_mu16, nI_add, nI_clamp (show f * 16 + s < 2 ^ 31 by omega), es]
          have vp : vp_in (nI (f * 16 + s)) 128 := vp_in_nI (by omega) (by decide)
          refine ek_if sm_bz (fun z => by rw [hbit] at z; cases z) (fun _ => And.intro vp (W1 _ (And.intro vp (nm_e (nm_r (nI_1 s) (W post J h))))))
      · have hbit : RM.testBit s = false := by
          cases h : RM.testBit s
          · rfl
          · exact absurd h hbit
        obtain ⟨cc', src', cb', fw', cn', cl', cr', sl', G', m', s1, s2, W⟩ := ih (s + 1) cc src cb fw cn cl cr sl (by omega) (by omega) G (fun s' a b => hsl s' (by omega) b)
        refine ⟨cc', src', cb', fw', cn', cl', cr', sl', G', m', fun j hj => s1 j (by omega), fun s' a b => ?_, fun post J h => ?_⟩
        · by_cases e : s' = s
          · subst e
            rw [s1 _ (by omega)]
            exact ⟨fun z => (by rw [hbit] at z; cases z), fun _ => hsl s' (Nat.le_refl _) b⟩
          · exact s2 s' (by omega) b
        · refine br_f n16 ?_
          rw [eb]
          exact br_t (by rw [hbit]; rfl) (nm_r (nI_1 s) (W post J h))
/-- all frames -/
theorem sm_xm44 (hP : sm_PG 0 np nt pm vs mk gl fi tk xo xj ow hh kk dp pt hd) (hxx : ∀ i, i < nt → xh i = hh i ∧ xk i = kk i) (hxl : ∀ i, i < nt → xl i < 256) (h8 : fr ≤ 8) (hu : us ≤ 16) (hsb : sb = 0 ∨ sb = 16)
    (hF : ∀ f, f < fr → sm_FS np nt fr pm tk ow hh fp fa fh f)
    (hv : ∀ f s, f < fr → s < 16 → sm_rtb mk kk xl fp fa fh f s = true → sm_va us sb (sl0 (f * 16 + s)))
    (hR : ∀ f s, f < fr → s < 16 → sm_rtb mk kk xl fp fa fh f s = true → ∀ c, c < us → sl0 (f * 16 + s) = nI (sb + 1 + c) → RXp c) :
    ∀ m f cc src cb fw cn cl cr sl, f ≤ fr → fr - f < m → sm_GI RXp us sb cc src cb0 cb cn0 cl0 cr0 fw cn cl cr 0 0 →
    (∀ f' s', f' < f → s' < 16 → (sm_rtb mk kk xl fp fa fh f' s' = true → sm_EV us sb fw (sl0 (f' * 16 + s')) (sl (f' * 16 + s'))) ∧ (sm_rtb mk kk xl fp fa fh f' s' = false → sl (f' * 16 + s') = sl0 (f' * 16 + s'))) → (∀ j, f * 16 ≤ j → sl j = sl0 j) →
    ∃ (cc' : Nat) (src' cb' : Nat → Nat) (fw' cn' cl' cr' sl' : Nat → Int32), sm_GI RXp us sb cc' src' cb0 cb' cn0 cl0 cr0 fw' cn' cl' cr' 0 0 ∧
      (∀ f' s', f' < fr → s' < 16 → (sm_rtb mk kk xl fp fa fh f' s' = true → sm_EV us sb fw' (sl0 (f' * 16 + s')) (sl' (f' * 16 + s'))) ∧ (sm_rtb mk kk xl fp fa fh f' s' = false → sl' (f' * 16 + s') = sl0 (f' * 16 + s'))) ∧
      ∀ (post : SX → Prop), (∃ n114, wX_moveLiveCells_114 post n114 1 xle xpe (nI cp) (nI lm) sta (nI np) opn (nI nt) xch xck xbc (nI fr) (nI sb) (nI us) (nI (16 - sb)) (nI cc') col (nI bo) (nI oc) res (sm_n pm) (sm_n vs) (sm_n mk) (sm_k gl) (sm_n fi) (sm_n tk) (sm_n xo) (sm_n (sm_ar tk)) (sm_n xj) (sm_n ow) (sm_n xh) (sm_n xk) (sm_n xl) xbk xbp xbh (sm_n fp) (sm_n fa) sl' cn' cl' cr' (sm_n cb') fw' ou) → wX_moveLiveCells_44 post m (nI f) xle xpe (nI cp) (nI lm) sta (nI np) opn (nI nt) xch xck xbc (nI fr) (nI sb) (nI us) (nI (16 - sb)) (nI cc) col (nI bo) (nI oc) res (sm_n pm) (sm_n vs) (sm_n mk) (sm_k gl) (sm_n fi) (sm_n tk) (sm_n xo) (sm_n (sm_ar tk)) (sm_n xj) (sm_n ow) (sm_n xh) (sm_n xk) (sm_n xl) xbk xbp xbh (sm_n fp) (sm_n fa) sl cn cl cr (sm_n cb) fw ou := by
  intro m
  induction m with
  | zero => intro f cc src cb fw cn cl cr sl _ h; omega
  | succ m ih =>
    intro f cc src cb fw cn cl cr sl hf hm G h1 h2
    by_cases ef : f = fr
    · subst ef
      exact ⟨cc, src, cb, fw, cn, cl, cr, sl, G, h1, fun post h => br_t (nI_le (Nat.le_refl _) (by omega)) h⟩
    · have z : f < fr := by omega
      have hFf := hF f z
      have hx := hxl _ hFf.1.2.1
      have hkb := sm_PH hP (show fa f ≤ nt by have := hFf.1.2.1; omega)
      have hk8 : kk (fa f) < 256 := Nat.lt_of_lt_of_le hkb.2 (sm_p8 hkb.1)
      obtain ⟨cc1, src1, cb1, fw1, cn1, cl1, cr1, sl1, G1, m1, s1, s2, W1⟩ := sm_xm60 (xle := xle) (xpe := xpe) (cp := cp) (lm := lm) (sta := sta) (np := np) (opn := opn) (nt := nt) (xch := xch) (xck := xck) (xbc := xbc) (fr := fr) (col := col) (bo := bo) (oc := oc) (res := res) (pm := pm) (vs := vs) (mk := mk) (gl := gl) (fi := fi) (tk := tk) (xo := xo) (xj := xj) (ow := ow) (xh := xh) (xk := xk) (xl := xl) (xbk := xbk) (xbp := xbp) (xbh := xbh) (fp := fp) (fa := fa) (ou := ou) (f := f) (sl0 := sl0) (RXp := RXp) hu hsb (show f < 8 by omega) (sm_rmb (mk := mk) (fp := fp) (fh := fh) hx hk8) (fun s hs hr => hv f s z hs (by rw [← sm_rmt hx]; exact hr)) (fun s hs hr => hR f s z hs (by rw [← sm_rmt hx]; exact hr)) 17 0 cc src cb fw cn cl cr sl (by omega) (by omega) G (fun s' _ _ => h2 _ (by omega))
      obtain ⟨cc', src', cb', fw', cn', cl', cr', sl', G', h1', W⟩ := ih (f + 1) cc1 src1 cb1 fw1 cn1 cl1 cr1 sl1 (by omega) (by omega) G1 (fun f' s' a b => by
        by_cases e : f' = f
        · subst e
          have := s2 s' (Nat.zero_le _) b
          rw [sm_rmt hx] at this
          exact this
        · rw [s1 _ (by omega)]
          have := h1 f' s' (by omega) b
          exact ⟨fun y => sm_EVm (this.1 y) m1, this.2⟩) (fun j hj => by rw [s1 j (by omega)]; exact h2 j (by omega))
      exact ⟨cc', src', cb', fw', cn', cl', cr', sl', G', h1', fun post h => br_f (nI_ge z (by omega)) (sm_xfr hP hxx h8 z hFf ⟨17, W1 post _ (W post h)⟩)⟩
/-- the scan -/
theorem sm_xm114 (hu : us ≤ 16) (hsb : sb = 0 ∨ sb = 16) (hv : ∀ c, c < us → sm_va us sb (cl0 (sb + 1 + c)) ∧ sm_va us sb (cr0 (sb + 1 + c)))
    (hR : ∀ c d, RXp c → c < us → d < us → (cl0 (sb + 1 + c) = nI (sb + 1 + d) ∨ cr0 (sb + 1 + c) = nI (sb + 1 + d)) → RXp d) :
    ∀ m k cc src cb fw cn cl cr, 16 - k < m → sm_GI RXp us sb cc src cb0 cb cn0 cl0 cr0 fw cn cl cr k k →
    ∃ (cc' : Nat) (src' cb' : Nat → Nat) (fw' cn' cl' cr' : Nat → Int32), sm_GI RXp us sb cc' src' cb0 cb' cn0 cl0 cr0 fw' cn' cl' cr' cc' cc' ∧ sm_fm us sb fw fw' ∧
      ∀ (post : SX → Prop), wX_moveLiveCells_173 post xle xpe (nI cp) (nI lm) sta (nI np) opn (nI nt) xch xck xbc (nI fr) (nI sb) (nI us) (nI (16 - sb)) (nI cc') col (nI bo) (nI oc) res (sm_n pm) (sm_n vs) (sm_n mk) (sm_k gl) (sm_n fi) (sm_n tk) (sm_n xo) (sm_n (sm_ar tk)) (sm_n xj) (sm_n ow) (sm_n xh) (sm_n xk) (sm_n xl) xbk xbp xbh (sm_n fp) (sm_n fa) sl cn' cl' cr' (sm_n cb') fw' ou → wX_moveLiveCells_114 post m (nI (k + 1)) xle xpe (nI cp) (nI lm) sta (nI np) opn (nI nt) xch xck xbc (nI fr) (nI sb) (nI us) (nI (16 - sb)) (nI cc) col (nI bo) (nI oc) res (sm_n pm) (sm_n vs) (sm_n mk) (sm_k gl) (sm_n fi) (sm_n tk) (sm_n xo) (sm_n (sm_ar tk)) (sm_n xj) (sm_n ow) (sm_n xh) (sm_n xk) (sm_n xl) xbk xbp xbh (sm_n fp) (sm_n fa) sl cn cl cr (sm_n cb) fw ou := by
  intro m
  induction m with
  | zero => intro k cc src cb fw cn cl cr h; omega
  | succ m ih =>
    intro k cc src cb fw cn cl cr hm G
    have hkc := G.2.2.2.2.2.1
    have hcc : cc ≤ us := by rw [G.1]; exact sm_cnt_le _ _
    by_cases e : k = cc
    · subst e
      exact ⟨k, src, cb, fw, cn, cl, cr, G, fun _ _ _ => rfl, fun post h => pk_lt 16 (k + 1) (fun _ => h) (fun _ => pk_lt k (k + 1) (fun _ => h) (fun z => absurd z (by omega)))⟩
    · have kc : k < cc := by omega
      have sk := G.2.1 k kc
      obtain ⟨_, l1, _, l2⟩ := G.2.2.2.2.1 k kc
      have l1 := l1 (Nat.le_refl k)
      obtain ⟨r1, cc1, src1, cb1, fw1, cn1, cl1, cr1, ⟨G1, c1, m1, u1⟩, _, E1, W1⟩ := sm_xev (xle := xle) (xpe := xpe) (cp := cp) (lm := lm) (sta := sta) (np := np) (opn := opn) (nt := nt) (xch := xch) (xck := xck) (xbc := xbc) (fr := fr) (col := col) (bo := bo) (oc := oc) (res := res) (pm := pm) (vs := vs) (mk := mk) (gl := gl) (fi := fi) (tk := tk) (xo := xo) (xj := xj) (ow := ow) (xh := xh) (xk := xk) (xl := xl) (xbk := xbk) (xbp := xbp) (xbh := xbh) (fp := fp) (fa := fa) (sl := sl) (ou := ou) hu hsb G (a := cl (16 - sb + 1 + k)) (by rw [l1]; exact (hv _ sk.1).1) (fun x hx e => hR _ x sk.2.1 sk.1 hx (Or.inl (by rw [← l1]; exact e)))
      have k1 : k < cc1 := by omega
      have sk1 := G1.2.1 k k1
      obtain ⟨_, l3, _, l4⟩ := G1.2.2.2.2.1 k k1
      have l3 := l3 (Nat.le_refl k)
      have l4 := l4 (Nat.le_refl k)
      have G2 := sm_GIL hsb hu G1 k1 (r := r1) (by rw [← l3, (u1 k kc).1]; exact E1)
      obtain ⟨r2, cc2, src2, cb2, fw2, cn2, cl2, cr2, ⟨G3, c2, m2, u2⟩, _, E2, W2⟩ := sm_xev (xle := xle) (xpe := xpe) (cp := cp) (lm := lm) (sta := sta) (np := np) (opn := opn) (nt := nt) (xch := xch) (xck := xck) (xbc := xbc) (fr := fr) (col := col) (bo := bo) (oc := oc) (res := res) (pm := pm) (vs := vs) (mk := mk) (gl := gl) (fi := fi) (tk := tk) (xo := xo) (xj := xj) (ow := ow) (xh := xh) (xk := xk) (xl := xl) (xbk := xbk) (xbp := xbp) (xbh := xbh) (fp := fp) (fa := fa) (sl := sl) (ou := ou) hu hsb G2 (a := cr1 (16 - sb + 1 + k)) (by rw [l4]; exact (hv _ sk1.1).2) (fun x hx e => hR _ x sk1.2.1 sk1.1 hx (Or.inr (by rw [← l4]; exact e)))
      have k2 : k < cc2 := by omega
      obtain ⟨_, _, _, l6⟩ := G3.2.2.2.2.1 k k2
      have l6 := l6 (Nat.le_refl k)
      have G4 := sm_GIR hsb hu G3 k2 (r := r2) (by rw [← l6, (u2 k k1).2]; exact E2)
      obtain ⟨cc', src', cb', fw', cn', cl', cr', G', m', W⟩ := ih (k + 1) cc2 src2 cb2 fw2 cn2 cl2 (upd cr2 (16 - sb + 1 + k) r2) (by omega) G4
      refine ⟨cc', src', cb', fw', cn', cl', cr', G', fun x hx hf => ?_, fun post h => ?_⟩
      · have e1 := m1 x hx hf
        have e2 := m2 x hx (by rw [e1]; exact hf)
        rw [m' x hx (by rw [e2, e1]; exact hf), e2, e1]
      · have ea : nI (16 - sb) + nI (k + 1) = nI (16 - sb + 1 + k) := by rw [nI_add]; congr 1; omega
        have vp : vp_in (nI (16 - sb + 1 + k)) 33 := vp_in_nI (by omega) (by decide)
        refine pk_lt 16 (k + 1) (fun z => absurd z (by omega)) (fun _ => pk_lt cc (k + 1) (fun z => absurd z (by omega)) (fun _ => nm_r ea ?_))
        rw [nI_clamp (show 16 - sb + 1 + k < 2 ^ 31 by omega)]
        exact ⟨vp, W1 _ ⟨vp, nm_e ⟨vp, W2 _ ⟨vp, nm_e (nm_r (nI_1 (k + 1)) (W post h))⟩⟩⟩⟩
/-- clearing the forwards -/
theorem sm_xm18 {xcb xcc : Int32} (hsb : sb ≤ 16) : ∀ m j fw, j ≤ 16 → 16 - j < m → (∀ a, a < j → fw (sb + 1 + a) = 0) →
    ∃ fw' : Nat → Int32, (∀ a, a < 16 → fw' (sb + 1 + a) = 0) ∧ ∀ post : SX → Prop, (∃ n44, wX_moveLiveCells_44 post n44 0 xle xpe (nI cp) (nI lm) sta (nI np) opn (nI nt) xch xck xbc (nI fr) (nI sb) (nI us) xcb xcc col (nI bo) (nI oc) res (sm_n pm) (sm_n vs) (sm_n mk) (sm_k gl) (sm_n fi) (sm_n tk) (sm_n xo) (sm_n (sm_ar tk)) (sm_n xj) (sm_n ow) (sm_n xh) (sm_n xk) (sm_n xl) xbk xbp xbh (sm_n fp) (sm_n fa) sl cn cl cr (sm_n cb) fw' ou) → wX_moveLiveCells_18 post xle xpe (nI cp) (nI lm) sta (nI np) opn (nI nt) xch xck xbc (nI fr) (nI sb) (nI us) xcb xcc col (nI bo) (nI oc) res m (nI (j + 1)) (sm_n pm) (sm_n vs) (sm_n mk) (sm_k gl) (sm_n fi) (sm_n tk) (sm_n xo) (sm_n (sm_ar tk)) (sm_n xj) (sm_n ow) (sm_n xh) (sm_n xk) (sm_n xl) xbk xbp xbh (sm_n fp) (sm_n fa) sl cn cl cr (sm_n cb) fw ou := by
  intro m
  induction m with
  | zero => intro j fw _ h; omega
  | succ m ih =>
    intro j fw hj hm h0
    by_cases e : j = 16
    · subst e
      exact ⟨fw, h0, fun post h => br_t (nI_lt (a := 16) (by omega) (by decide)) h⟩
    · obtain ⟨fw', h1, W⟩ := ih (j + 1) (upd fw (sb + 1 + j) 0) (by omega) (by omega) (fun a ha => by
        by_cases ea : a = j
        · rw [ea, pk_us]
        · rw [pk_un (by omega)]; exact h0 a (by omega))
      refine ⟨fw', h1, fun post h => br_f ?_ ?_⟩
      · exact nI_nlt (a := 16) (b := j + 1) (by omega) (by decide)
      · have ea : nI sb + nI (j + 1) = nI (sb + 1 + j) := by rw [nI_add]; congr 1; omega
        rw [ea, nI_clamp (show sb + 1 + j < 2 ^ 31 by omega)]
        exact ⟨vp_in_nI (by omega) (by decide), nm_e (nm_r (nI_1 (j + 1)) (W post h))⟩
end
end
section
/-! the component's collection, whole -/
section
variable {xle xpe sta opn xch xck xbc xcb xcc col res yh yd : Int32} {cp lm np nt fr sb us bo oc : Nat} {pm vs mk fi tk xo xj ow xh xk xl fp fa fh cb : Nat → Nat} {gl : Nat → Bool} {xbk xbp xbh sl cn cl cr fw ou yt yb ys yr lo st he nu lf rg : Nat → Int32} {hh kk dp : Nat → Nat} {pt hd : Nat → Nat → Nat}
variable {f s : Nat}
theorem sm_hv (H : sm_HP cp us sb bo cb cn cl cr he nu lf rg) : ∀ c, c < us → sm_va us sb (cl (sb + 1 + c)) ∧ sm_va us sb (cr (sb + 1 + c)) := fun c hc =>
  ⟨sm_VRa (H.2.1 c hc).2.2.2.2.1, sm_VRa (H.2.1 c hc).2.2.2.2.2⟩
theorem sm_rv (hP : sm_PG 0 np nt pm vs mk gl fi tk xo xj ow hh kk dp pt hd) (hF : ∀ f, f < fr → sm_FR np nt fr us sb pm vs mk tk ow hh kk xl fp fa fh cb sl lo st f) : ∀ f s, f < fr → s < 16 → sm_rtb mk kk xl fp fa fh f s = true → sm_va us sb (sl (f * 16 + s)) := by
  intro f s hf hs hr
  have := sm_rtv hP (hF f hf) hs hr
  by_cases e : s < 8
  · exact sm_VRa (this.1 e).2
  · exact sm_VRa (this.2 (by omega)).2
/-- what a collection leaves -/
def sm_GC (RXp : Nat → Prop) (fr us sb : Nat) (mk kk xl fp fa fh cb : Nat → Nat) (cn cl cr sl : Nat → Int32) (cc : Nat) (src cb' : Nat → Nat) (fw' cn' cl' cr' sl' : Nat → Int32) : Prop :=
  sm_GI RXp us sb cc src cb cb' cn cl cr fw' cn' cl' cr' cc cc ∧ (∀ c, c < us → (fw' (sb + 1 + c) ≠ 0 ↔ RXp c)) ∧
  (∀ f s, f < fr → s < 16 → (sm_rtb mk kk xl fp fa fh f s = true → sm_EV us sb fw' (sl (f * 16 + s)) (sl' (f * 16 + s))) ∧ (sm_rtb mk kk xl fp fa fh f s = false → sl' (f * 16 + s) = sl (f * 16 + s)))
theorem sm_xgc (hP : sm_PG 0 np nt pm vs mk gl fi tk xo xj ow hh kk dp pt hd) (hxx : ∀ i, i < nt → xh i = hh i ∧ xk i = kk i) (hxl : ∀ i, i < nt → xl i < 256) (h8 : fr ≤ 8) (H : sm_HP cp us sb bo cb cn cl cr he nu lf rg)
    (hF : ∀ f, f < fr → sm_FR np nt fr us sb pm vs mk tk ow hh kk xl fp fa fh cb sl lo st f) :
    ∃ (cc : Nat) (src cb' : Nat → Nat) (fw' cn' cl' cr' sl' : Nat → Int32), sm_GC (sm_RX fr us sb mk kk xl fp fa fh sl cl cr) fr us sb mk kk xl fp fa fh cb cn cl cr sl cc src cb' fw' cn' cl' cr' sl' ∧
    ∀ post : SX → Prop, post (xle, xpe, nI cp, nI lm, sta, nI np, opn, nI nt, xch, xck, xbc, nI fr, nI (16 - sb), nI cc, nI (16 - sb), nI cc, col + 1, nI bo, nI oc, res, sm_n pm, sm_n vs, sm_n mk, sm_k gl, sm_n fi, sm_n tk, sm_n xo, sm_n (sm_ar tk), sm_n xj, sm_n ow, sm_n xh, sm_n xk, sm_n xl, xbk, xbp, xbh, sm_n fp, sm_n fa, sl', cn', cl', cr', sm_n cb', fw', ou) → wpX_moveLiveCells post (xle, xpe, nI cp, nI lm, sta, nI np, opn, nI nt, xch, xck, xbc, nI fr, nI sb, nI us, xcb, xcc, col, nI bo, nI oc, res, sm_n pm, sm_n vs, sm_n mk, sm_k gl, sm_n fi, sm_n tk, sm_n xo, sm_n (sm_ar tk), sm_n xj, sm_n ow, sm_n xh, sm_n xk, sm_n xl, xbk, xbp, xbh, sm_n fp, sm_n fa, sl, cn, cl, cr, sm_n cb, fw, ou) := by
  obtain ⟨⟨p1, p2, p3, p4, hsb⟩, _⟩ := id H
  have hu : us ≤ 16 := by omega
  have hva := sm_hv H
  have hrv := sm_rv hP hF
  have hR1 : ∀ f s, f < fr → s < 16 → sm_rtb mk kk xl fp fa fh f s = true → ∀ c, c < us → sl (f * 16 + s) = nI (sb + 1 + c) → sm_RX fr us sb mk kk xl fp fa fh sl cl cr c := fun f s a b c d e1 e2 => sm_ls_r ⟨e1, f, s, a, b, c, e2⟩
  have hR2 : ∀ c d, sm_RX fr us sb mk kk xl fp fa fh sl cl cr c → c < us → d < us → (cl (sb + 1 + c) = nI (sb + 1 + d) ∨ cr (sb + 1 + c) = nI (sb + 1 + d)) → sm_RX fr us sb mk kk xl fp fa fh sl cl cr d := fun c d a b e1 e2 => sm_ls_e a ⟨b, e1, e2⟩
  obtain ⟨fw1, z1, W1⟩ := sm_xm18 (xle := xle) (xpe := xpe) (cp := cp) (lm := lm) (sta := sta) (np := np) (opn := opn) (nt := nt) (xch := xch) (xck := xck) (xbc := xbc) (fr := fr) (us := us) (col := col) (bo := bo) (oc := oc) (res := res) (pm := pm) (vs := vs) (mk := mk) (gl := gl) (fi := fi) (tk := tk) (xo := xo) (xj := xj) (ow := ow) (xh := xh) (xk := xk) (xl := xl) (xbk := xbk) (xbp := xbp) (xbh := xbh) (fp := fp) (fa := fa) (sl := sl) (cn := cn) (cl := cl) (cr := cr) (cb := cb) (ou := ou) (xcb := nI (16 - sb)) (xcc := 0) (show sb ≤ 16 by omega) 17 0 fw (by omega) (by omega) (fun a ha => by omega)
  have G1 : sm_GI (sm_RX fr us sb mk kk xl fp fa fh sl cl cr) us sb 0 (fun _ => 0) cb cb cn cl cr fw1 cn cl cr 0 0 := by
    refine ⟨?_, fun k hk => by omega, fun a ha hf => absurd (z1 a (by omega)) hf, fun a ha => ⟨rfl, rfl, rfl, rfl⟩, fun k hk => by omega, by omega, by omega⟩
    exact (sm_cnt_none us (fun k hk => decide_eq_false (by simp [z1 k (by omega)]))).symm
  obtain ⟨cc2, src2, cb2, fw2, cn2, cl2, cr2, sl2, G2, s2, W2⟩ := sm_xm44 (xle := xle) (xpe := xpe) (cp := cp) (lm := lm) (sta := sta) (opn := opn) (xch := xch) (xck := xck) (xbc := xbc) (col := col) (bo := bo) (oc := oc) (res := res) (xbk := xbk) (xbp := xbp) (xbh := xbh) (ou := ou) hP hxx hxl h8 hu hsb (fun f hf => sm_FSi (hF f hf)) hrv hR1 (fr + 1) 0 0 (fun _ => 0) cb fw1 cn cl cr sl (by omega) (by omega) G1 (fun f' s' a => by omega) (fun _ _ => rfl)
  obtain ⟨cc3, src3, cb3, fw3, cn3, cl3, cr3, G3, m3, W3⟩ := sm_xm114 (xle := xle) (xpe := xpe) (cp := cp) (lm := lm) (sta := sta) (np := np) (opn := opn) (nt := nt) (xch := xch) (xck := xck) (xbc := xbc) (fr := fr) (col := col) (bo := bo) (oc := oc) (res := res) (pm := pm) (vs := vs) (mk := mk) (gl := gl) (fi := fi) (tk := tk) (xo := xo) (xj := xj) (ow := ow) (xh := xh) (xk := xk) (xl := xl) (xbk := xbk) (xbp := xbp) (xbh := xbh) (fp := fp) (fa := fa) (sl := sl2) (ou := ou) hu hsb hva hR2 17 0 cc2 src2 cb2 fw2 cn2 cl2 cr2 (by omega) G2
  have s3 : ∀ f s, f < fr → s < 16 → (sm_rtb mk kk xl fp fa fh f s = true → sm_EV us sb fw3 (sl (f * 16 + s)) (sl2 (f * 16 + s))) ∧ (sm_rtb mk kk xl fp fa fh f s = false → sl2 (f * 16 + s) = sl (f * 16 + s)) := fun f s a b => ⟨fun z => sm_EVm ((s2 f s a b).1 z) m3, (s2 f s a b).2⟩
  refine ⟨cc3, src3, cb3, fw3, cn3, cl3, cr3, sl2, ⟨G3, fun c hc => ⟨fun hf => ?_, fun hx => ?_⟩, s3⟩, fun post h => ?_⟩
  · obtain ⟨k, k1, k2⟩ := G3.2.2.1 c hc hf
    rw [← k2]
    exact (G3.2.1 k k1).2.1
  · have := sm_ls_i hx (fun q => q < us → fw3 (sb + 1 + q) ≠ 0) (fun y hy _ => ?_) (fun y z hy hE hz => ?_)
    · exact this hc
    · obtain ⟨y1, f, s, f1, s1, r1, e1⟩ := hy
      rcases (s3 f s f1 s1).1 r1 with w | ⟨x, x1, x2, x3, _⟩
      · rw [e1] at w
        exact absurd w.1 (nI_ne0 (by omega) (by omega))
      · rw [e1] at x2
        rw [sm_inj (by omega) (by omega) (by omega) x2]
        exact x3
    · have fy := hy hE.1
      obtain ⟨k, k1, k2⟩ := G3.2.2.1 y hE.1 fy
      obtain ⟨a1, _, a3, _⟩ := G3.2.2.2.2.1 k k1
      have a1 := a1 k1
      have a3 := a3 k1
      rw [k2] at a1 a3
      rcases hE.2.2 with e | e
      · rw [e] at a1
        rcases a1 with w | ⟨x, x1, x2, x3, _⟩
        · exact absurd w.1 (nI_ne0 (by omega) (by omega))
        · rw [sm_inj (by omega) (by omega) (by omega) x2]; exact x3
      · rw [e] at a3
        rcases a3 with w | ⟨x, x1, x2, x3, _⟩
        · exact absurd w.1 (nI_ne0 (by omega) (by omega))
        · rw [sm_inj (by omega) (by omega) (by omega) x2]; exact x3
  · have e16 : (16 : Int32) - nI sb = nI (16 - sb) := pk_sub (a := 16) (by omega)
    exact nm_r e16 ⟨17, W1 post ⟨fr + 1, W2 post ⟨17, W3 post (nm_e h)⟩⟩⟩
/-- links after a collection -/
theorem sm_VRg {RXp : Nat → Prop} {cc : Nat} {src cb' : Nat → Nat} {fw' cn' cl' cr' : Nat → Int32} {a b r : Int32} (hsb : sb ≤ 16) (hu : us ≤ 16) (G : sm_GI RXp us sb cc src cb cb' cn cl cr fw' cn' cl' cr' cc cc) (h : sm_VR us sb cb a b) (e : sm_EV us sb fw' a r) : sm_VR cc (16 - sb) cb' r b := by
  rcases h with ⟨h1, h2⟩ | ⟨c, h1, h2, h3⟩
  · rcases e with e | ⟨x, x1, x2, _⟩
    · exact Or.inl ⟨e.2, h2⟩
    · rw [h1] at x2
      exact absurd x2.symm (nI_ne0 (by omega) (by omega))
  · rcases e with e | ⟨x, x1, x2, x3, x4⟩
    · rw [h2] at e
      exact absurd e.1 (nI_ne0 (by omega) (by omega))
    · rw [h2] at x2
      have ex := sm_inj hsb (by omega) (by omega) x2
      subst ex
      obtain ⟨k, k1, k2⟩ := G.2.2.1 c h1 x3
      obtain ⟨_, _, k3, k4, _⟩ := G.2.1 k k1
      rw [k2] at k3 k4
      exact Or.inr ⟨k, k1, by rw [x4]; exact k3, by rw [h3, k4]⟩
/-- the birth b is reached -/
def sm_Q (RXp : Nat → Prop) (us sb : Nat) (cb : Nat → Nat) (b : Nat) : Prop := ∃ c, c < us ∧ cb (sb + 1 + c) = b ∧ RXp c
theorem sm_gcH {RXp : Nat → Prop} {cc : Nat} {src cb' : Nat → Nat} {fw' cn' cl' cr' sl' he' : Nat → Int32} (H : sm_HP cp us sb bo cb cn cl cr he nu lf rg) (G : sm_GC RXp fr us sb mk kk xl fp fa fh cb cn cl cr sl cc src cb' fw' cn' cl' cr' sl')
    (h1 : ∀ b, 1 ≤ b → b ≤ bo → sm_Q RXp us sb cb b → he' b = he b) (h2 : ∀ b, 1 ≤ b → b ≤ bo → he' b ≠ 0 → sm_Q RXp us sb cb b) : sm_HP cp cc (16 - sb) bo cb' cn' cl' cr' he' nu lf rg := by
  obtain ⟨⟨p1, p2, p3, p4, hsb⟩, q1, q2, q3⟩ := H
  obtain ⟨GI, gf, gs⟩ := G
  obtain ⟨g1, g2, g3, g4, g5, _⟩ := id GI
  have hcc : cc ≤ us := by rw [g1]; exact sm_cnt_le _ _
  refine ⟨⟨p1, p2, by omega, p4, by omega⟩, fun k hk => ?_, fun k d hk hd e => ?_, fun b b1 b2 hb => ?_⟩
  · obtain ⟨k1, k2, k3, k4, k5⟩ := g2 k hk
    obtain ⟨c1, c2, c3, c4, c5, c6⟩ := q1 _ k1
    obtain ⟨a1, _, a3, _⟩ := g5 k hk
    unfold sm_HC
    rw [k4, k5]
    refine ⟨c1, c2, ?_, c4, sm_VRg (by omega) (by omega) GI c5 (a1 hk), sm_VRg (by omega) (by omega) GI c6 (a3 hk)⟩
    rw [h1 _ c1 c2 ⟨_, k1, rfl, k2⟩]
    exact c3
  · obtain ⟨k1, _, k3, k4, _⟩ := g2 k hk
    obtain ⟨d1, _, d3, d4, _⟩ := g2 d hd
    rw [k4, d4] at e
    have := q2 _ _ k1 d1 e
    rw [this, d3] at k3
    have := (nI_eq (by omega) (by omega)).mp k3
    omega
  · obtain ⟨c, c1, c2, c3⟩ := h2 b b1 b2 hb
    obtain ⟨k, k1, k2⟩ := g3 c c1 ((gf c c1).mpr c3)
    refine ⟨k, k1, ?_⟩
    rw [(g2 k k1).2.2.2.1, k2]
    exact c2
theorem sm_gcF {RXp : Nat → Prop} {cc : Nat} {src cb' : Nat → Nat} {fw' cn' cl' cr' sl' : Nat → Int32} (hsb : sb ≤ 16) (hu : us ≤ 16) (hP : sm_PG 0 np nt pm vs mk gl fi tk xo xj ow hh kk dp pt hd) (G : sm_GC RXp fr us sb mk kk xl fp fa fh cb cn cl cr sl cc src cb' fw' cn' cl' cr' sl') (hf : f < fr) (hF : sm_FR np nt fr us sb pm vs mk tk ow hh kk xl fp fa fh cb sl lo st f) :
    sm_FR np nt fr cc (16 - sb) pm vs mk tk ow hh kk xl fp fa fh cb' sl' lo st f := by
  obtain ⟨GI, _, gs⟩ := G
  obtain ⟨f1, f2, f3, f4, f5⟩ := hF
  have hh8 : fh f ≤ 8 := by
    have hb := (sm_PH hP (show fa f ≤ nt by have := f1.2.1; omega)).1
    by_cases e : f + 1 = fr
    · rw [f2 e]; exact hb
    · have := (f3 (by omega)).2.1
      omega
  refine ⟨f1, f2, f3, fun v hv => ⟨fun hm => ?_, fun hm hl => ?_⟩, fun j hj => ⟨fun hk => ?_, fun hk => ?_⟩⟩
  · have hv8 : v < 8 := by have := (sm_PQ hP f1.1).2.2.1; omega
    rw [(gs f v hf (by omega)).2 (by unfold sm_rtb; rw [if_pos hv8, hm, Bool.and_false])]
    exact (f4 v hv).1 hm
  · have hv8 : v < 8 := by have := (sm_PQ hP f1.1).2.2.1; omega
    exact sm_VRg hsb hu GI ((f4 v hv).2 hm hl) ((gs f v hf (by omega)).1 (by unfold sm_rtb; rw [if_pos hv8, hm, hl]; rfl))
  · have e : f * 16 + 8 + j = f * 16 + (8 + j) := by omega
    have e2 : 8 + j - 8 = j := by omega
    rw [e, (gs f (8 + j) hf (by omega)).2 (by unfold sm_rtb; rw [if_neg (by omega), e2, hk, Bool.false_and]), ← e]
    exact (f5 j hj).1 hk
  · have e : f * 16 + 8 + j = f * 16 + (8 + j) := by omega
    have e2 : 8 + j - 8 = j := by omega
    have := (gs f (8 + j) hf (by omega)).1 (by unfold sm_rtb; rw [if_neg (by omega), e2, hk, decide_eq_true hj]; rfl)
    rw [← e] at this
    exact sm_VRg hsb hu GI ((f5 j hj).2 hk) this
end
end
section
/-! the reference marks what is reached -/
section
variable {xle xpe sta opn xch xck xbc xcb xcc col res yh yd : Int32} {cp lm np nt fr sb us bo oc : Nat} {pm vs mk fi tk xo xj ow xh xk xl fp fa fh cb : Nat → Nat} {gl : Nat → Bool} {xbk xbp xbh sl cn cl cr fw ou yt yb ys yr lo st he nu lf rg : Nat → Int32} {hh kk dp : Nat → Nat} {pt hd : Nat → Nat → Nat}
variable {f s : Nat} {RXp : Nat → Prop}
def sm_SD (RXp : Nat → Prop) (us sb : Nat) (cb : Nat → Nat) (yr : Nat → Int32) : Prop := ∀ b, 1 ≤ b → b < 121 → yr b ≠ 0 → sm_Q RXp us sb cb b
theorem sm_mark {a b : Int32} (hcb : ∀ c, c < us → 1 ≤ cb (sb + 1 + c) ∧ cb (sb + 1 + c) ≤ 120) (hsb : sb ≤ 16) (hu : us ≤ 16) (hV : sm_VR us sb cb a b) (hs : sm_SD RXp us sb cb yr) (hR : ∀ c, c < us → a = nI (sb + 1 + c) → RXp c) :
    vp_in b 121 ∧ sm_SD RXp us sb cb (upd yr b.toNatClampNeg 1) ∧ sm_yle yr (upd yr b.toNatClampNeg 1) ∧ (∀ c, c < us → a = nI (sb + 1 + c) → upd yr b.toNatClampNeg 1 (cb (sb + 1 + c)) ≠ 0) := by
  have le : ∀ k : Nat, sm_yle yr (upd yr k 1) := fun k q hq => by
    by_cases e : q = k
    · rw [e, pk_us]; decide
    · rw [pk_un e]; exact hq
  rcases hV with ⟨e1, e2⟩ | ⟨c, c1, c2, c3⟩
  · subst e2
    have e0 : (0 : Int32).toNatClampNeg = 0 := by decide
    rw [e0]
    refine ⟨vp_in_nI (n := 0) (by omega) (by decide), fun b b1 b2 hb => hs b b1 b2 ?_, le 0, fun c hc e => ?_⟩
    · rw [pk_un (by omega)] at hb; exact hb
    · rw [e1] at e
      exact absurd e.symm (nI_ne0 (by omega) (by omega))
  · obtain ⟨d1, d2⟩ := hcb c c1
    have ec : b.toNatClampNeg = cb (sb + 1 + c) := by rw [c3]; exact nI_clamp (by omega)
    rw [ec]
    refine ⟨by rw [c3]; exact vp_in_nI (by omega) (by decide), fun q q1 q2 hq => ?_, le _, fun d hd e => ?_⟩
    · by_cases e : q = cb (sb + 1 + c)
      · exact ⟨c, c1, e.symm, hR c c1 c2⟩
      · rw [pk_un e] at hq; exact hs q q1 q2 hq
    · rw [c2] at e
      rw [sm_inj hsb (by omega) (by omega) e, pk_us]
      decide
/-- slot s of frame f is marked -/
def sm_MK (us sb : Nat) (cb : Nat → Nat) (sl yr : Nat → Int32) (f s : Nat) : Prop := ∀ c, c < us → sl (f * 16 + s) = nI (sb + 1 + c) → yr (cb (sb + 1 + c)) ≠ 0
theorem sm_MKm {yr' : Nat → Int32} (h : sm_MK us sb cb sl yr f s) (l : sm_yle yr yr') : sm_MK us sb cb sl yr' f s := fun c hc e => l _ (h c hc e)
/-- the entries of a frame -/
theorem sm_ym114 {post : SY → Prop} {J : Int32 → Int32 → Int32 → Int32 → Int32 → Int32 → Int32 → Int32 → Int32 → Int32 → Int32 → Int32 → Int32 → Int32 → (Nat → Int32) → (Nat → Int32) → (Nat → Int32) → (Nat → Int32) → (Nat → Int32) → (Nat → Int32) → (Nat → Int32) → (Nat → Int32) → (Nat → Int32) → (Nat → Int32) → (Nat → Int32) → (Nat → Int32) → (Nat → Int32) → (Nat → Int32) → (Nat → Int32) → (Nat → Int32) → (Nat → Int32) → (Nat → Int32) → (Nat → Int32) → (Nat → Int32) → Prop} (hcb : ∀ c, c < us → 1 ≤ cb (sb + 1 + c) ∧ cb (sb + 1 + c) ≤ 120) (hsb : sb ≤ 16) (hu : us ≤ 16) (h8 : f < 8) (hfh : fh f ≤ 8) (hle : fh f ≤ hh (fa f)) (htt : sm_tt hh kk (fa f) yt)
    (hV : ∀ j, j < fh f → (kk (fa f)).testBit j = true → sm_VR us sb cb (sl (f * 16 + (8 + j))) (st (f * 8 + j)) ∧ ∀ c, c < us → sl (f * 16 + (8 + j)) = nI (sb + 1 + c) → RXp c) :
    ∀ m j yr, j ≤ fh f → fh f - j < m → sm_SD RXp us sb cb yr → (∀ yr', sm_SD RXp us sb cb yr' → sm_yle yr yr' → (∀ j', j ≤ j' → j' < fh f → (kk (fa f)).testBit j' = true → sm_MK us sb cb sl yr' f (8 + j')) → J (nI (f + 1)) (nI cp) (nI lm) sta (nI np) opn (nI nt) yh yd (nI fr) (nI bo) col (nI oc) res (sm_n tk) (sm_n fi) (sm_n pm) (sm_n vs) (sm_n mk) (sm_k gl) yt yb ys yr' (sm_n fp) (sm_n fa) (sm_n fh) lo st he nu lf rg ou) →
    wY_markReach_114 post J (nI f) (nI cp) (nI lm) sta (nI np) opn (nI nt) yh yd (nI fr) (nI bo) col (nI oc) res m (nI j) (sm_n tk) (sm_n fi) (sm_n pm) (sm_n vs) (sm_n mk) (sm_k gl) yt yb ys yr (sm_n fp) (sm_n fa) (sm_n fh) lo st he nu lf rg ou := by
  intro m
  induction m with
  | zero => intro j yr _ h; omega
  | succ m ih =>
    intro j yr hj hm hs hJ
    refine And.intro (vp_in_nI h8 (by decide)) ?_
    rw [nI_clamp (show f < 2 ^ 31 by omega), sm_nap]
    refine pk_le (fh f) j (fun z => nm_r (nI_1 f) (hJ yr hs (fun _ y => y) (fun j' a b => by omega))) (fun z => ?_)
    rw [nI_clamp (show j < 2 ^ 31 by omega), htt j (by omega), sm_mu8, nI_add, nI_clamp (show f * 8 + j < 2 ^ 31 by omega), sm_b1]
    refine And.intro (vp_in_nI (by omega) (by decide)) (ek_if sm_bo (fun e => ?_) (fun e => nm_r (nI_1 j) (ih (j + 1) yr (by omega) (by omega) hs (fun yr' a b c => hJ yr' a b (fun j' j1 j2 j3 => ?_)))))
    · obtain ⟨v1, v2⟩ := hV j z e
      obtain ⟨k1, k2, k3, k4⟩ := sm_mark hcb hsb hu v1 hs v2
      refine And.intro (vp_in_nI (by omega) (by decide)) (And.intro k1 (nm_e (nm_r (nI_1 j) (ih (j + 1) _ (by omega) (by omega) k2 (fun yr' a b c => hJ yr' a (fun q hq => b q (k3 q hq)) (fun j' j1 j2 j3 => ?_))))))
      by_cases ej : j' = j
      · subst ej
        exact fun d hd e2 => b _ (k4 d hd e2)
      · exact c j' (by omega) j2 j3
    · by_cases ej : j' = j
      · subst ej
        exact absurd j3 e
      · exact c j' (by omega) j2 j3
/-- the variables of a frame -/
theorem sm_ym40 {post : SY → Prop} {J : Int32 → Int32 → Int32 → Int32 → Int32 → Int32 → Int32 → Int32 → Int32 → Int32 → Int32 → Int32 → Int32 → Int32 → (Nat → Int32) → (Nat → Int32) → (Nat → Int32) → (Nat → Int32) → (Nat → Int32) → (Nat → Int32) → (Nat → Int32) → (Nat → Int32) → (Nat → Int32) → (Nat → Int32) → (Nat → Int32) → (Nat → Int32) → (Nat → Int32) → (Nat → Int32) → (Nat → Int32) → (Nat → Int32) → (Nat → Int32) → (Nat → Int32) → (Nat → Int32) → (Nat → Int32) → Prop} (hP : sm_PG 0 np nt pm vs mk gl fi tk xo xj ow hh kk dp pt hd) (hL : sm_LV nt tk xo xj xl) (hmk : ∀ q, mk q < 256) (hcb : ∀ c, c < us → 1 ≤ cb (sb + 1 + c) ∧ cb (sb + 1 + c) ≤ 120) (hsb : sb ≤ 16) (hu : us ≤ 16) (h8 : f < 8)
    (hF : sm_FR np nt fr us sb pm vs mk tk ow hh kk xl fp fa fh cb sl lo st f) (hfr : f < fr) (hR : ∀ s, s < 16 → sm_rtb mk kk xl fp fa fh f s = true → ∀ c, c < us → sl (f * 16 + s) = nI (sb + 1 + c) → RXp c) :
    ∀ m v yr ys, v ≤ vs (fp f) → vs (fp f) - v < m → sm_SD RXp us sb cb yr → (∀ yh yd yt yb ys yr', sm_SD RXp us sb cb yr' → sm_yle yr yr' → (∀ s, v ≤ s → s < 16 → sm_rtb mk kk xl fp fa fh f s = true → sm_MK us sb cb sl yr' f s) → J (nI (f + 1)) (nI cp) (nI lm) sta (nI np) opn (nI nt) yh yd (nI fr) (nI bo) col (nI oc) res (sm_n tk) (sm_n fi) (sm_n pm) (sm_n vs) (sm_n mk) (sm_k gl) yt yb ys yr' (sm_n fp) (sm_n fa) (sm_n fh) lo st he nu lf rg ou) →
    wY_markReach_40 post J (nI f) (nI (fp f)) m (nI v) (nI cp) (nI lm) sta (nI np) opn (nI nt) yh yd (nI fr) (nI bo) col (nI oc) res (sm_n tk) (sm_n fi) (sm_n pm) (sm_n vs) (sm_n mk) (sm_k gl) yt yb ys yr (sm_n fp) (sm_n fa) (sm_n fh) lo st he nu lf rg ou := by
  have n160 := hP.1.2.1
  have n8 := hP.1.1
  obtain ⟨f1, f2, f3, f4, f5⟩ := id hF
  have hq := sm_PQ hP f1.1
  have hvs := hq.2.2.1
  have hb := (sm_PH hP (show fa f ≤ nt by omega)).1
  have hle : fh f ≤ hh (fa f) := by
    by_cases e : f + 1 = fr
    · rw [f2 e]; exact Nat.le_refl _
    · have := (f3 (by omega)).2.1
      omega
  intro m
  induction m with
  | zero => intro v yr ys _ h; omega
  | succ m ih =>
    intro v yr ys hv hm hs hJ
    refine And.intro (vp_in_nI (by omega) (by decide)) ?_
    rw [nI_clamp (show fp f < 2 ^ 31 by omega), sm_nap, nI_clamp (show f < 2 ^ 31 by omega), sm_nap, sm_nap]
    refine pk_le (vs (fp f)) v (fun z => And.intro (vp_in_nI h8 (by decide)) ?_) (fun z => And.intro (vp_in_nI (by omega) (by decide)) ?_)
    · have how : ∀ k, fi (fp f) ≤ k → k < fa f → ow k = fp f := by
        intro k k1 k2
        have ho := sm_PO hP (show fa f < nt by omega)
        unfold sm_tO at ho
        rw [f1.2.2] at ho
        have hz := sm_owc hP (a := k) (fa f) (by omega) f1.2.1 (fun q q1 q2 => ho.2.2.2 q (by omega) q2)
        rw [← hz, f1.2.2]
      refine sm_ywalk hP f1.1 (by omega) (by have := (sm_PO hP f1.2.1).1; rw [f1.2.2] at this; exact this) how (fun yt' yb' htt hbk => ?_)
      dsimp only
      refine ⟨fh f + 1, sm_ym114 (sl := sl) hcb hsb hu h8 (by omega) hle htt (fun j hj hk => ?_) (fh f + 1) 0 yr (by omega) (by omega) hs (fun yr' a b c => hJ _ _ _ _ _ yr' a b (fun s s1 s2 s3 => ?_))⟩
      · have hr : sm_rtb mk kk xl fp fa fh f (8 + j) = true := by
          unfold sm_rtb
          rw [if_neg (by omega), show 8 + j - 8 = j by omega, hk, decide_eq_true hj]
          rfl
        refine ⟨?_, hR (8 + j) (by omega) hr⟩
        have := (f5 j hj).2 hk
        rw [show f * 16 + 8 + j = f * 16 + (8 + j) by omega] at this
        exact this
      · have := sm_rtv hP hF s2 s3
        by_cases e : s < 8
        · have := (this.1 e).1
          omega
        · have h1 := (this.2 (by omega)).1
          have h2 := c (s - 8) (by omega) h1 (by
            unfold sm_rtb at s3
            rw [if_neg e, Bool.and_eq_true] at s3
            exact s3.1)
          rw [show 8 + (s - 8) = s by omega] at h2
          exact h2
    · have hv8 : v < 8 := by omega
      have hmk8 := hmk (fp f)
      rw [sm_bit (by omega) (by omega)]
      have skip : sm_rtb mk kk xl fp fa fh f v = false → ∀ ys, wY_markReach_40 post J (nI f) (nI (fp f)) m (nI (v + 1)) (nI cp) (nI lm) sta (nI np) opn (nI nt) yh yd (nI fr) (nI bo) col (nI oc) res (sm_n tk) (sm_n fi) (sm_n pm) (sm_n vs) (sm_n mk) (sm_k gl) yt yb ys yr (sm_n fp) (sm_n fa) (sm_n fh) lo st he nu lf rg ou := fun e ys =>
        ih (v + 1) yr ys (by omega) (by omega) hs (fun yh yd yt yb ys yr' a b c => hJ yh yd yt yb ys yr' a b (fun s s1 s2 s3 => by
          by_cases es : s = v
          · subst es; rw [e] at s3; cases s3
          · exact c s (by omega) s2 s3))
      refine ek_if sm_bo (fun e => And.intro (vp_in_nI h8 (by decide)) ?_) (fun e => nm_r (nI_1 v) (skip ?_ ys))
      · refine sm_ylive hP f1.2.1 hv8 (fun hl ys => ?_) (fun hl ys => ?_)
        · have hr : sm_rtb mk kk xl fp fa fh f v = true := by
            unfold sm_rtb
            rw [if_pos hv8, e, ((hL _ f1.2.1).2 v hv8).mpr hl]
            rfl
          obtain ⟨k1, k2, k3, k4⟩ := sm_mark hcb hsb hu ((sm_rtv hP hF (by omega) hr).1 hv8).2 hs (hR v (by omega) hr)
          refine br_f sm_10 ?_
          rw [sm_mu8, nI_add, nI_clamp (show f * 8 + v < 2 ^ 31 by omega), sm_b1]
          refine And.intro (vp_in_nI (by omega) (by decide)) (And.intro k1 (nm_e (nm_r (nI_1 v) (ih (v + 1) _ ys (by omega) (by omega) k2 (fun yh yd yt yb ys yr' a b c => hJ yh yd yt yb ys yr' a (fun q hq => b q (k3 q hq)) (fun s s1 s2 s3 => ?_))))))
          by_cases es : s = v
          · subst es
            exact fun d hd e2 => b _ (k4 d hd e2)
          · exact c s (by omega) s2 s3
        · refine br_t rfl (nm_r (nI_1 v) (skip ?_ ys))
          unfold sm_rtb
          rw [if_pos hv8]
          cases hx : (xl (fa f)).testBit v
          · rfl
          · exact absurd (((hL _ f1.2.1).2 v hv8).mp hx) hl
      · unfold sm_rtb
        rw [if_pos hv8]
        cases hx : (mk (fp f)).testBit v
        · rw [Bool.and_false]
        · exact absurd hx e
/-- all frames -/
theorem sm_ym23 {post : SY → Prop} (hP : sm_PG 0 np nt pm vs mk gl fi tk xo xj ow hh kk dp pt hd) (hL : sm_LV nt tk xo xj xl) (hmk : ∀ q, mk q < 256) (hcb : ∀ c, c < us → 1 ≤ cb (sb + 1 + c) ∧ cb (sb + 1 + c) ≤ 120) (hsb : sb ≤ 16) (hu : us ≤ 16) (h8 : fr ≤ 8)
    (hF : ∀ f, f < fr → sm_FR np nt fr us sb pm vs mk tk ow hh kk xl fp fa fh cb sl lo st f) (hR : ∀ f s, f < fr → s < 16 → sm_rtb mk kk xl fp fa fh f s = true → ∀ c, c < us → sl (f * 16 + s) = nI (sb + 1 + c) → RXp c)
    (hJ : ∀ yh yd yt yb ys yr, sm_SD RXp us sb cb yr → (∀ f s, f < fr → s < 16 → sm_rtb mk kk xl fp fa fh f s = true → sm_MK us sb cb sl yr f s) → ∃ n165, wY_markReach_165 post (nI cp) (nI lm) sta (nI np) opn (nI nt) yh yd (nI fr) (nI bo) col (nI oc) res n165 0 (sm_n tk) (sm_n fi) (sm_n pm) (sm_n vs) (sm_n mk) (sm_k gl) yt yb ys yr (sm_n fp) (sm_n fa) (sm_n fh) lo st he nu lf rg ou) :
    ∀ m f yh yd yt yb ys yr, f ≤ fr → fr - f < m → sm_SD RXp us sb cb yr → (∀ f' s, f' < f → s < 16 → sm_rtb mk kk xl fp fa fh f' s = true → sm_MK us sb cb sl yr f' s) → wY_markReach_23 post m (nI f) (nI cp) (nI lm) sta (nI np) opn (nI nt) yh yd (nI fr) (nI bo) col (nI oc) res (sm_n tk) (sm_n fi) (sm_n pm) (sm_n vs) (sm_n mk) (sm_k gl) yt yb ys yr (sm_n fp) (sm_n fa) (sm_n fh) lo st he nu lf rg ou := by
  have n8 := hP.1.1
  intro m
  induction m with
  | zero => intro f yh yd yt yb ys yr _ h; omega
  | succ m ih =>
    intro f yh yd yt yb ys yr hf hm hs hM
    refine pk_le fr f (fun z => hJ yh yd yt yb ys yr hs (fun f' s a b c => hM f' s (by omega) b c)) (fun z => And.intro (vp_in_nI (by omega) (by decide)) (nm_r (e' := nI (fp f)) (by rw [nI_clamp (by omega), sm_nap]) ⟨vs (fp f) + 1, ?_⟩))
    refine sm_ym40 hP hL hmk hcb hsb hu (by omega) (hF f z) z (fun s => hR f s z) (vs (fp f) + 1) 0 yr ys (by omega) (by omega) hs (fun yh yd yt yb ys yr' a b c => ih (f + 1) yh yd yt yb ys yr' (by omega) (by omega) a (fun f' s f1 s1 s2 => ?_))
    by_cases e : f' = f
    · subst e; exact c s (Nat.zero_le _) s1 s2
    · exact sm_MKm (hM f' s (by omega) s1 s2) b
/-- one round over the births -/
theorem sm_ym173 {post : SY → Prop} {J : Int32 → (Nat → Int32) → (Nat → Int32) → (Nat → Int32) → (Nat → Int32) → (Nat → Int32) → (Nat → Int32) → (Nat → Int32) → (Nat → Int32) → (Nat → Int32) → (Nat → Int32) → (Nat → Int32) → (Nat → Int32) → (Nat → Int32) → (Nat → Int32) → (Nat → Int32) → (Nat → Int32) → (Nat → Int32) → (Nat → Int32) → (Nat → Int32) → (Nat → Int32) → Prop} {r : Nat} (hcb : ∀ c, c < us → 1 ≤ cb (sb + 1 + c) ∧ cb (sb + 1 + c) ≤ 120) (hsb : sb ≤ 16) (hu : us ≤ 16) (hbo : bo ≤ 120)
    (hV : ∀ c, c < us → sm_VR us sb cb (cl (sb + 1 + c)) (lf (cb (sb + 1 + c))) ∧ sm_VR us sb cb (cr (sb + 1 + c)) (rg (cb (sb + 1 + c))))
    (hR : ∀ c d, RXp c → c < us → d < us → (cl (sb + 1 + c) = nI (sb + 1 + d) ∨ cr (sb + 1 + c) = nI (sb + 1 + d)) → RXp d) :
    ∀ m b yr, 1 ≤ b → b ≤ bo + 1 → bo + 1 - b < m → sm_SD RXp us sb cb yr →
    (∀ yr', sm_SD RXp us sb cb yr' → sm_yle yr yr' → (∀ b', b ≤ b' → b' ≤ bo → yr b' ≠ 0 → yr' (lf b').toNatClampNeg ≠ 0 ∧ yr' (rg b').toNatClampNeg ≠ 0) →
      (∀ S : Nat → Prop, (∀ q, yr q ≠ 0 → S q) → (∀ b, 1 ≤ b → b ≤ bo → S b → S (lf b).toNatClampNeg ∧ S (rg b).toNatClampNeg) → ∀ q, yr' q ≠ 0 → S q) → J (nI (r + 1)) (sm_n tk) (sm_n fi) (sm_n pm) (sm_n vs) (sm_n mk) (sm_k gl) yt yb ys yr' (sm_n fp) (sm_n fa) (sm_n fh) lo st he nu lf rg ou) →
    wY_markReach_173 post J (nI r) (nI cp) (nI lm) sta (nI np) opn (nI nt) yh yd (nI fr) (nI bo) col (nI oc) res m (nI b) (sm_n tk) (sm_n fi) (sm_n pm) (sm_n vs) (sm_n mk) (sm_k gl) yt yb ys yr (sm_n fp) (sm_n fa) (sm_n fh) lo st he nu lf rg ou := by
  intro m
  induction m with
  | zero => intro b yr _ _ h; omega
  | succ m ih =>
    intro b yr b1 b2 hm hs hJ
    refine pk_lt bo b (fun z => nm_r (nI_1 r) (hJ yr hs (fun _ y => y) (fun b' a c => by omega) (fun S h1 _ => h1))) (fun z => ?_)
    have vb : vp_in (nI b) 121 := vp_in_nI (by omega) (by decide)
    rw [nI_clamp (show b < 2 ^ 31 by omega), sm_b1]
    refine And.intro vb (br_c (fun e => nm_r (nI_1 b) (ih (b + 1) yr (by omega) (by omega) (by omega) hs (fun yr' a c d1 d2 => hJ yr' a c (fun b' b3 b4 b5 => ?_) d2))) (fun e => ?_))
    · by_cases eb : b' = b
      · subst eb; exact absurd e b5
      · exact d1 b' (by omega) b4 b5
    · obtain ⟨c, c1, c2, c3⟩ := hs b b1 (by omega) e
      obtain ⟨v1, v2⟩ := hV c c1
      rw [c2] at v1 v2
      obtain ⟨k1, k2, k3, k4⟩ := sm_mark hcb hsb hu v1 hs (fun d hd e2 => hR c d c3 c1 hd (Or.inl e2))
      obtain ⟨l1, l2, l3, l4⟩ := sm_mark hcb hsb hu v2 k2 (fun d hd e2 => hR c d c3 c1 hd (Or.inr e2))
      refine And.intro vb (And.intro k1 (nm_e (And.intro vb (And.intro l1 (nm_e (nm_r (nI_1 b) (ih (b + 1) _ (by omega) (by omega) (by omega) l2 (fun yr' a d0 d1 d2 => hJ yr' a (fun q hq => d0 q (l3 q (k3 q hq))) (fun b' b3 b4 b5 => ?_) (fun S h1 h2 => d2 S (fun q hq => ?_) h2)))))))))
      · by_cases eb : b' = b
        · subst eb
          exact ⟨d0 _ (l3 _ (by rw [pk_us]; decide)), d0 _ (by rw [pk_us]; decide)⟩
        · exact d1 b' (by omega) b4 (l3 _ (k3 _ b5))
      · have hS := h2 b b1 (by omega) (h1 b e)
        by_cases e1 : q = (rg b).toNatClampNeg
        · rw [e1]; exact hS.2
        · rw [pk_un e1] at hq
          by_cases e2 : q = (lf b).toNatClampNeg
          · rw [e2]; exact hS.1
          · rw [pk_un e2] at hq
            exact h1 q hq
def sm_yc (yr : Nat → Int32) : Nat := sm_cnt (fun b => decide (b ≠ 0 ∧ yr b ≠ 0)) 121
theorem sm_yc120 (yr : Nat → Int32) : sm_yc yr ≤ 120 := by
  have h := sm_cnt_lt (P := fun b => decide (b ≠ 0 ∧ yr b ≠ 0)) (Q := fun _ => true) 121 (fun _ _ _ => rfl) 0 (by omega) (decide_eq_false (fun z => z.1 rfl)) rfl
  have h2 := sm_cnt_le (fun _ => true) 121
  unfold sm_yc
  omega
def sm_ycl (bo : Nat) (lf rg yr : Nat → Int32) : Prop := ∀ b, 1 ≤ b → b ≤ bo → yr b ≠ 0 → yr (lf b).toNatClampNeg ≠ 0 ∧ yr (rg b).toNatClampNeg ≠ 0
theorem sm_ym165 {post : SY → Prop} (hcb : ∀ c, c < us → 1 ≤ cb (sb + 1 + c) ∧ cb (sb + 1 + c) ≤ 120) (hsb : sb ≤ 16) (hu : us ≤ 16) (hbo : bo ≤ 120)
    (hV : ∀ c, c < us → sm_VR us sb cb (cl (sb + 1 + c)) (lf (cb (sb + 1 + c))) ∧ sm_VR us sb cb (cr (sb + 1 + c)) (rg (cb (sb + 1 + c))))
    (hR : ∀ c d, RXp c → c < us → d < us → (cl (sb + 1 + c) = nI (sb + 1 + d) ∨ cr (sb + 1 + c) = nI (sb + 1 + d)) → RXp d) (yr0 : Nat → Int32)
    (hpost : ∀ yr, sm_SD RXp us sb cb yr → sm_yle yr0 yr → sm_ycl bo lf rg yr → post (nI cp, nI lm, sta, nI np, opn, nI nt, yh, yd, nI fr, nI bo, col, nI oc, res, sm_n tk, sm_n fi, sm_n pm, sm_n vs, sm_n mk, sm_k gl, yt, yb, ys, yr, sm_n fp, sm_n fa, sm_n fh, lo, st, he, nu, lf, rg, ou)) :
    ∀ m r yr, r ≤ 120 → 120 < m + r → sm_SD RXp us sb cb yr → sm_yle yr0 yr → (sm_ycl bo lf rg yr ∨ r + 1 ≤ sm_yc yr) → wY_markReach_165 post (nI cp) (nI lm) sta (nI np) opn (nI nt) yh yd (nI fr) (nI bo) col (nI oc) res m (nI r) (sm_n tk) (sm_n fi) (sm_n pm) (sm_n vs) (sm_n mk) (sm_k gl) yt yb ys yr (sm_n fp) (sm_n fa) (sm_n fh) lo st he nu lf rg ou := by
  intro m
  induction m with
  | zero => intro r yr a b; omega
  | succ m ih =>
    intro r yr hr hm hs h0 hc
    refine pk_le 120 r (fun z => hpost yr hs h0 ?_) (fun z => ⟨bo + 1, sm_ym173 hcb hsb hu hbo hV hR (bo + 1) 1 yr (by omega) (by omega) (by omega) hs (fun yr' a b c d => ih (r + 1) yr' (by omega) (by omega) a (fun q hq => b q (h0 q hq)) ?_)⟩)
    · rcases hc with hc | hc
      · exact hc
      · have := sm_yc120 yr
        omega
    · rcases hc with hc | hc
      · have e := d (fun q => yr q ≠ 0) (fun _ h => h) hc
        exact Or.inl (fun q q1 q2 hq => c q q1 q2 (e q hq))
      · by_cases new : ∀ q, 1 ≤ q → q < 121 → yr' q ≠ 0 → yr q ≠ 0
        · exact Or.inl (fun q q1 q2 hq => c q q1 q2 (new q q1 (by omega) hq))
        · refine Or.inr ?_
          obtain ⟨q, hq⟩ := Classical.not_forall.mp new
          obtain ⟨q1, hq⟩ := Classical.not_imp.mp hq
          obtain ⟨q2, hq⟩ := Classical.not_imp.mp hq
          obtain ⟨q3, q4⟩ := Classical.not_imp.mp hq
          have : sm_yc yr < sm_yc yr' := sm_cnt_lt 121 (fun i _ hi => decide_eq_true ⟨(of_decide_eq_true hi).1, b i (of_decide_eq_true hi).2⟩) q q2 (decide_eq_false (fun z => q4 z.2)) (decide_eq_true ⟨by omega, q3⟩)
          omega
/-- clearing -/
theorem sm_ym2 {post : SY → Prop} (h : ∀ yr, (∀ q, q < 121 → yr q = 0) → ∃ n23, wY_markReach_23 post n23 0 (nI cp) (nI lm) sta (nI np) opn (nI nt) yh yd (nI fr) (nI bo) col (nI oc) res (sm_n tk) (sm_n fi) (sm_n pm) (sm_n vs) (sm_n mk) (sm_k gl) yt yb ys yr (sm_n fp) (sm_n fa) (sm_n fh) lo st he nu lf rg ou) : ∀ m j yr, j ≤ 121 → 121 - j < m → (∀ q, q < j → yr q = 0) → wY_markReach_2 post (nI cp) (nI lm) sta (nI np) opn (nI nt) yh yd (nI fr) (nI bo) col (nI oc) res m (nI j) (sm_n tk) (sm_n fi) (sm_n pm) (sm_n vs) (sm_n mk) (sm_k gl) yt yb ys yr (sm_n fp) (sm_n fa) (sm_n fh) lo st he nu lf rg ou := by
  intro m
  induction m with
  | zero => intro j yr _ h; omega
  | succ m ih =>
    intro j yr hj hm hz
    refine pk_lt 120 j (fun z => h yr (fun q hq => hz q (by omega))) (fun z => ?_)
    rw [nI_clamp (show j < 2 ^ 31 by omega), sm_b0]
    refine And.intro (vp_in_nI (by omega) (by decide)) (nm_e (nm_r (nI_1 j) (ih (j + 1) _ (by omega) (by omega) (fun q hq => ?_))))
    by_cases e : q = j
    · rw [e, pk_us]
    · rw [pk_un e]; exact hz q (by omega)
theorem sm_ymark {post : SY → Prop} (hP : sm_PG 0 np nt pm vs mk gl fi tk xo xj ow hh kk dp pt hd) (hL : sm_LV nt tk xo xj xl) (hmk : ∀ q, mk q < 256) (h8 : fr ≤ 8) (H : sm_HP cp us sb bo cb cn cl cr he nu lf rg)
    (hF : ∀ f, f < fr → sm_FR np nt fr us sb pm vs mk tk ow hh kk xl fp fa fh cb sl lo st f)
    (hpost : ∀ yh yd yt yb ys yr, (∀ b, 1 ≤ b → b ≤ bo → (yr b ≠ 0 ↔ sm_Q (sm_RX fr us sb mk kk xl fp fa fh sl cl cr) us sb cb b)) → post (nI cp, nI lm, sta, nI np, opn, nI nt, yh, yd, nI fr, nI bo, col, nI oc, res, sm_n tk, sm_n fi, sm_n pm, sm_n vs, sm_n mk, sm_k gl, yt, yb, ys, yr, sm_n fp, sm_n fa, sm_n fh, lo, st, he, nu, lf, rg, ou)) : wpY_markReach post (nI cp, nI lm, sta, nI np, opn, nI nt, yh, yd, nI fr, nI bo, col, nI oc, res, sm_n tk, sm_n fi, sm_n pm, sm_n vs, sm_n mk, sm_k gl, yt, yb, ys, yr, sm_n fp, sm_n fa, sm_n fh, lo, st, he, nu, lf, rg, ou) := by
  obtain ⟨⟨p1, p2, p3, p4, hsb⟩, q1, q2, q3⟩ := id H
  have hcb : ∀ c, c < us → 1 ≤ cb (sb + 1 + c) ∧ cb (sb + 1 + c) ≤ 120 := fun c hc => ⟨(q1 c hc).1, by have := (q1 c hc).2.1; omega⟩
  have hV : ∀ c, c < us → sm_VR us sb cb (cl (sb + 1 + c)) (lf (cb (sb + 1 + c))) ∧ sm_VR us sb cb (cr (sb + 1 + c)) (rg (cb (sb + 1 + c))) := fun c hc => ⟨(q1 c hc).2.2.2.2.1, (q1 c hc).2.2.2.2.2⟩
  have hR1 : ∀ f s, f < fr → s < 16 → sm_rtb mk kk xl fp fa fh f s = true → ∀ c, c < us → sl (f * 16 + s) = nI (sb + 1 + c) → sm_RX fr us sb mk kk xl fp fa fh sl cl cr c := fun f s a b c d e1 e2 => sm_ls_r ⟨e1, f, s, a, b, c, e2⟩
  have hR2 : ∀ c d, sm_RX fr us sb mk kk xl fp fa fh sl cl cr c → c < us → d < us → (cl (sb + 1 + c) = nI (sb + 1 + d) ∨ cr (sb + 1 + c) = nI (sb + 1 + d)) → sm_RX fr us sb mk kk xl fp fa fh sl cl cr d := fun c d a b e1 e2 => sm_ls_e a ⟨b, e1, e2⟩
  refine ⟨122, sm_ym2 (fun yr hz => ⟨fr + 1, sm_ym23 hP hL hmk hcb (by omega) (by omega) h8 hF hR1 (fun yh yd yt yb ys yr1 s1 r1 => ⟨121, sm_ym165 hcb (by omega) (by omega) p4 hV hR2 yr1 (fun yr2 s2 l2 cl2 => hpost yh yd yt yb ys yr2 (fun b b1 b2 => ⟨fun hb => s2 b b1 (by omega) hb, fun hQ => ?_⟩)) 121 0 yr1 (by omega) (by omega) s1 (fun _ h => h) ?_⟩) (fr + 1) 0 yh yd yt yb ys yr (by omega) (by omega) (fun b b1 b2 hb => absurd (hz b b2) hb) (fun f' s a => by omega)⟩) 122 0 yr (by omega) (by omega) (fun q hq => by omega)⟩
  · obtain ⟨c, c1, c2, c3⟩ := hQ
    have := sm_ls_i c3 (fun q => q < us → yr2 (cb (sb + 1 + q)) ≠ 0) (fun y hy _ => ?_) (fun y z hy hE hz2 => ?_)
    · rw [← c2]; exact this c1
    · obtain ⟨y1, f, s, f1, t1, t2, t3⟩ := hy
      exact l2 _ (r1 f s f1 t1 t2 y y1 t3)
    · obtain ⟨d1, d2⟩ := cl2 _ (q1 y hE.1).1 (q1 y hE.1).2.1 (hy hE.1)
      have key : ∀ a v : Int32, sm_VR us sb cb a v → a = nI (sb + 1 + z) → v.toNatClampNeg = cb (sb + 1 + z) := by
        intro a v hv ea
        rcases hv with w | ⟨x, x1, x2, x3⟩
        · rw [w.1] at ea
          exact absurd ea.symm (nI_ne0 (by omega) (by omega))
        · rw [ea] at x2
          have ex := sm_inj (by omega) (by omega) (by omega) x2
          have := (hcb x x1).2
          rw [x3, ex, nI_clamp (by omega)]
      rcases hE.2.2 with e | e
      · rw [key _ _ (hV y hE.1).1 e] at d1; exact d1
      · rw [key _ _ (hV y hE.1).2 e] at d2; exact d2
  · by_cases any : ∃ b, 1 ≤ b ∧ b < 121 ∧ yr1 b ≠ 0
    · obtain ⟨b, b1, b2, b3⟩ := any
      have h := sm_cnt_lt (P := fun _ => false) (Q := fun b => decide (b ≠ 0 ∧ yr1 b ≠ 0)) 121 (fun _ _ z => absurd z (by decide)) b b2 rfl (decide_eq_true ⟨by omega, b3⟩)
      refine Or.inr ?_
      unfold sm_yc
      omega
    · exact Or.inl (fun b b1 b2 hb => absurd ⟨b, b1, by omega, hb⟩ any)
end
end
section
/-! the reference counts and gathers -/
section
variable {xle xpe sta opn xch xck xbc xcb xcc col res yh yd : Int32} {cp lm np nt fr sb us bo oc : Nat} {pm vs mk fi tk xo xj ow xh xk xl fp fa fh cb : Nat → Nat} {gl : Nat → Bool} {xbk xbp xbh sl cn cl cr fw ou yt yb ys yr lo st he nu lf rg : Nat → Int32} {hh kk dp : Nat → Nat} {pt hd : Nat → Nat → Nat}
variable {RXp : Nat → Prop}
def sm_hc (bo : Nat) (he : Nat → Int32) : Nat := sm_cnt (fun q => decide (he (q + 1) ≠ 0)) bo
theorem sm_hcu (H : sm_HP cp us sb bo cb cn cl cr he nu lf rg) : sm_hc bo he = us := by
  obtain ⟨_, q1, q2, q3⟩ := H
  refine sm_cnt_bij us _ (fun c => cb (sb + 1 + c) - 1) (fun c hc => ?_) (fun c d hc hd e => ?_) (fun b hb h => ?_)
  · obtain ⟨c1, c2, c3, _⟩ := q1 c hc
    refine ⟨?_, decide_eq_true ?_⟩
    · show cb (sb + 1 + c) - 1 < bo
      omega
    · show he (cb (sb + 1 + c) - 1 + 1) ≠ 0
      rw [show cb (sb + 1 + c) - 1 + 1 = cb (sb + 1 + c) by omega]
      exact c3
  · have h1 := (q1 c hc).1
    have h2 := (q1 d hd).1
    refine q2 c d hc hd ?_
    have : cb (sb + 1 + c) - 1 = cb (sb + 1 + d) - 1 := e
    omega
  · obtain ⟨c, c1, c2⟩ := q3 (b + 1) (by omega) (by omega) (of_decide_eq_true h)
    exact ⟨c, c1, by show cb (sb + 1 + c) - 1 = b; omega⟩
theorem sm_yu4 {post : Int32 → Prop} (hbo : bo ≤ 120) (h : post (nI (sm_hc bo he))) : ∀ m b, b ≤ bo → bo - b < m → wY_used_4 post (nI cp) (nI lm) sta (nI np) opn (nI nt) yh yd (nI fr) (nI bo) col (nI oc) res (sm_n tk) (sm_n fi) (sm_n pm) (sm_n vs) (sm_n mk) (sm_k gl) yt yb ys yr (sm_n fp) (sm_n fa) (sm_n fh) lo st he nu lf rg ou m (nI (sm_hc b he)) (nI (b + 1)) := by
  intro m
  induction m with
  | zero => intro b _ h; omega
  | succ m ih =>
    intro b hb hm
    refine pk_lt bo (b + 1) (fun z => ?_) (fun z => ?_)
    · have e : b = bo := by omega
      subst e
      exact h
    · rw [nI_clamp (show b + 1 < 2 ^ 31 by omega)]
      have e : sm_hc (b + 1) he = sm_hc b he + (decide (he (b + 1) ≠ 0)).toNat := rfl
      have i1 := ih (b + 1) (by omega) (by omega)
      rw [e] at i1
      refine And.intro (vp_in_nI (by omega) (by decide)) (br_c (fun z0 => nm_r (nI_1 _) ?_) (fun z0 => nm_r (nI_1 _) (nm_r (nI_1 _) ?_)))
      · rw [decide_eq_false (by simp [z0])] at i1
        exact i1
      · rw [decide_eq_true z0] at i1
        exact i1
theorem sm_yus {post : Int32 → Prop} (H : sm_HP cp us sb bo cb cn cl cr he nu lf rg) (h : post (nI us)) : wpY_used post (nI cp, nI lm, sta, nI np, opn, nI nt, yh, yd, nI fr, nI bo, col, nI oc, res, sm_n tk, sm_n fi, sm_n pm, sm_n vs, sm_n mk, sm_k gl, yt, yb, ys, yr, sm_n fp, sm_n fa, sm_n fh, lo, st, he, nu, lf, rg, ou) := by
  rw [← sm_hcu H] at h
  exact ⟨bo + 1, sm_yu4 H.1.2.2.2.1 h (bo + 1) 0 (by omega) (by omega)⟩
/-- what gather leaves held -/
noncomputable def sm_hq (Q : Nat → Prop) (bo : Nat) (he : Nat → Int32) : Nat → Int32 := fun b => @ite _ (1 ≤ b ∧ b ≤ bo ∧ ¬ Q b) (Classical.propDecidable _) 0 (he b)
theorem sm_hq1 {Q : Nat → Prop} {b : Nat} (h : ¬ (1 ≤ b ∧ b ≤ bo ∧ ¬ Q b)) : sm_hq Q bo he b = he b := by
  unfold sm_hq
  exact @if_neg _ (Classical.propDecidable _) h _ _ _
theorem sm_hq0 {Q : Nat → Prop} {b : Nat} (h : 1 ≤ b ∧ b ≤ bo ∧ ¬ Q b) : sm_hq Q bo he b = 0 := by
  unfold sm_hq
  exact @if_pos _ (Classical.propDecidable _) h _ _ _
def sm_hg (he yr : Nat → Int32) (k : Nat) : Nat → Int32 := fun b => if 1 ≤ b ∧ b ≤ k ∧ yr b = 0 then 0 else he b
theorem sm_hgq {Q : Nat → Prop} (h : ∀ b, 1 ≤ b → b ≤ bo → (yr b ≠ 0 ↔ Q b)) : sm_hg he yr bo = sm_hq Q bo he := by
  funext b
  unfold sm_hg
  by_cases c : 1 ≤ b ∧ b ≤ bo ∧ yr b = 0
  · rw [if_pos c, sm_hq0 ⟨c.1, c.2.1, fun z => (h b c.1 c.2.1).mpr z c.2.2⟩]
  · rw [if_neg c, sm_hq1]
    rintro ⟨a1, a2, a3⟩
    refine c ⟨a1, a2, ?_⟩
    by_cases y : yr b = 0
    · exact y
    · exact absurd ((h b a1 a2).mp y) a3
theorem sm_cnt_add {P Q R : Nat → Bool} : ∀ n, (∀ i, i < n → (P i).toNat = (Q i).toNat + (R i).toNat) → sm_cnt P n = sm_cnt Q n + sm_cnt R n := by
  intro n
  induction n with
  | zero => intro _; rfl
  | succ n ih =>
    intro h
    show sm_cnt P n + (P n).toNat = sm_cnt Q n + (Q n).toNat + (sm_cnt R n + (R n).toNat)
    rw [ih (fun i hi => h i (by omega)), h n (by omega)]
    omega
def sm_dn (he yr : Nat → Int32) (n : Nat) : Nat := sm_cnt (fun q => decide (he (q + 1) ≠ 0 ∧ yr (q + 1) = 0)) n
theorem sm_dne : sm_dn he yr bo = sm_hc bo he - sm_hc bo (sm_hg he yr bo) := by
  have := sm_cnt_add (P := fun q => decide (he (q + 1) ≠ 0)) (Q := fun q => decide (sm_hg he yr bo (q + 1) ≠ 0)) (R := fun q => decide (he (q + 1) ≠ 0 ∧ yr (q + 1) = 0)) bo (fun i hi => by
    show (decide (he (i + 1) ≠ 0)).toNat = (decide (sm_hg he yr bo (i + 1) ≠ 0)).toNat + (decide (he (i + 1) ≠ 0 ∧ yr (i + 1) = 0)).toNat
    unfold sm_hg
    by_cases c : yr (i + 1) = 0
    · rw [if_pos ⟨by omega, by omega, c⟩, decide_eq_false (show ¬ ((0 : Int32) ≠ 0) from fun z => z rfl)]
      by_cases d : he (i + 1) = 0
      · simp [d]
      · simp [d, c]
    · rw [if_neg (fun z => c z.2.2), decide_eq_false (show ¬ (he (i + 1) ≠ 0 ∧ yr (i + 1) = 0) from fun z => c z.2)]
      rfl)
  unfold sm_dn sm_hc
  omega
theorem sm_yg8 {post : Int32 → SY → Prop} (hbo : bo ≤ 120) (h : post (nI (sm_dn he yr bo)) (nI cp, nI lm, sta, nI np, opn, nI nt, yh, yd, nI fr, nI bo, col + 1, nI oc, res, sm_n tk, sm_n fi, sm_n pm, sm_n vs, sm_n mk, sm_k gl, yt, yb, ys, yr, sm_n fp, sm_n fa, sm_n fh, lo, st, sm_hg he yr bo, nu, lf, rg, ou)) : ∀ m b, b ≤ bo → bo - b < m → wY_gather_8 post (nI cp) (nI lm) sta (nI np) opn (nI nt) yh yd (nI fr) (nI bo) col (nI oc) res m (nI (sm_dn he yr b)) (nI (b + 1)) (sm_n tk) (sm_n fi) (sm_n pm) (sm_n vs) (sm_n mk) (sm_k gl) yt yb ys yr (sm_n fp) (sm_n fa) (sm_n fh) lo st (sm_hg he yr b) nu lf rg ou := by
  intro m
  induction m with
  | zero => intro b _ h; omega
  | succ m ih =>
    intro b hb hm
    refine pk_lt bo (b + 1) (fun z => ?_) (fun z => ?_)
    · have e : b = bo := by omega
      subst e
      exact nm_e h
    · have vb : vp_in (nI (b + 1)) 121 := vp_in_nI (by omega) (by decide)
      rw [nI_clamp (show b + 1 < 2 ^ 31 by omega), sm_b0]
      have e : sm_dn he yr (b + 1) = sm_dn he yr b + (decide (he (b + 1) ≠ 0 ∧ yr (b + 1) = 0)).toNat := rfl
      have e2 : sm_hg he yr b (b + 1) = he (b + 1) := if_neg (by omega)
      have i1 := ih (b + 1) (by omega) (by omega)
      rw [e] at i1
      have same : (he (b + 1) = 0 ∨ yr (b + 1) ≠ 0) → sm_hg he yr (b + 1) = sm_hg he yr b := by
        intro c
        funext q
        unfold sm_hg
        by_cases eq : q = b + 1
        · subst eq
          rw [if_neg (show ¬ (1 ≤ b + 1 ∧ b + 1 ≤ b ∧ yr (b + 1) = 0) by omega)]
          by_cases y : yr (b + 1) = 0
          · rcases c with c | c
            · rw [if_pos ⟨by omega, by omega, y⟩, c]
            · exact absurd y c
          · rw [if_neg (fun z => y z.2.2)]
        · by_cases y : 1 ≤ q ∧ q ≤ b ∧ yr q = 0
          · rw [if_pos y, if_pos ⟨y.1, by omega, y.2.2⟩]
          · rw [if_neg y, if_neg (fun z => y ⟨z.1, by omega, z.2.2⟩)]
      rw [e2]
      refine And.intro vb (br_c (fun z0 => nm_r (nI_1 _) ?_) (fun z0 => And.intro vb (br_c (fun z1 => And.intro vb (nm_r (e' := sm_hg he yr (b + 1)) ?_ (nm_r (nI_1 _) (nm_r (nI_1 _) ?_)))) (fun z1 => nm_r (nI_1 _) ?_))))
      · rw [decide_eq_false (fun z => z.1 z0), same (Or.inl z0)] at i1
        exact i1
      · funext q
        unfold sm_hg
        by_cases eq : q = b + 1
        · subst eq
          rw [pk_us, if_pos ⟨by omega, by omega, z1⟩]
        · rw [pk_un eq]
          by_cases y : 1 ≤ q ∧ q ≤ b ∧ yr q = 0
          · rw [if_pos y, if_pos ⟨y.1, by omega, y.2.2⟩]
          · rw [if_neg y, if_neg (fun z => y ⟨z.1, by omega, z.2.2⟩)]
      · rw [decide_eq_true ⟨z0, z1⟩] at i1
        exact i1
      · rw [decide_eq_false (fun z => z1 z.2), same (Or.inr z1)] at i1
        exact i1
theorem sm_ygat {post : Int32 → SY → Prop} (hP : sm_PG 0 np nt pm vs mk gl fi tk xo xj ow hh kk dp pt hd) (hL : sm_LV nt tk xo xj xl) (hmk : ∀ q, mk q < 256) (h8 : fr ≤ 8) (H : sm_HP cp us sb bo cb cn cl cr he nu lf rg)
    (hF : ∀ f, f < fr → sm_FR np nt fr us sb pm vs mk tk ow hh kk xl fp fa fh cb sl lo st f)
    (hpost : ∀ yh yd yt yb ys yr, post (nI (us - sm_hc bo (sm_hq (sm_Q (sm_RX fr us sb mk kk xl fp fa fh sl cl cr) us sb cb) bo he))) (nI cp, nI lm, sta, nI np, opn, nI nt, yh, yd, nI fr, nI bo, col + 1, nI oc, res, sm_n tk, sm_n fi, sm_n pm, sm_n vs, sm_n mk, sm_k gl, yt, yb, ys, yr, sm_n fp, sm_n fa, sm_n fh, lo, st, sm_hq (sm_Q (sm_RX fr us sb mk kk xl fp fa fh sl cl cr) us sb cb) bo he, nu, lf, rg, ou)) : wpY_gather post (nI cp, nI lm, sta, nI np, opn, nI nt, yh, yd, nI fr, nI bo, col, nI oc, res, sm_n tk, sm_n fi, sm_n pm, sm_n vs, sm_n mk, sm_k gl, yt, yb, ys, yr, sm_n fp, sm_n fa, sm_n fh, lo, st, he, nu, lf, rg, ou) := by
  unfold wpY_gather
  dsimp only
  refine sm_ymark hP hL hmk h8 H hF (fun yh yd yt yb ys yr hy => ?_)
  dsimp only
  have hp := hpost yh yd yt yb ys yr
  rw [← sm_hgq hy, ← sm_hcu H, ← sm_dne] at hp
  have e0 : sm_hg he yr 0 = he := by
    funext q
    exact if_neg (by omega)
  refine ⟨bo + 1, ?_⟩
  have k := sm_yg8 (post := post) H.1.2.2.2.1 hp (bo + 1) 0 (by omega) (by omega)
  rw [e0] at k
  exact k
/-- the new heap and frames after both collections -/
theorem sm_gcB {cc : Nat} {src cb' : Nat → Nat} {fw' cn' cl' cr' sl' : Nat → Int32} (H : sm_HP cp us sb bo cb cn cl cr he nu lf rg) (G : sm_GC RXp fr us sb mk kk xl fp fa fh cb cn cl cr sl cc src cb' fw' cn' cl' cr' sl') :
    sm_HP cp cc (16 - sb) bo cb' cn' cl' cr' (sm_hq (sm_Q RXp us sb cb) bo he) nu lf rg ∧ us - sm_hc bo (sm_hq (sm_Q RXp us sb cb) bo he) = us - cc ∧ cc ≤ us := by
  have HH := sm_gcH (he' := sm_hq (sm_Q RXp us sb cb) bo he) H G (fun b b1 b2 q => sm_hq1 (fun z => z.2.2 q)) (fun b b1 b2 hb => by
    by_cases q : sm_Q RXp us sb cb b
    · exact q
    · exact absurd (sm_hq0 ⟨b1, b2, q⟩) hb)
  have hcc : cc ≤ us := by rw [G.1.1]; exact sm_cnt_le _ _
  exact ⟨HH, by rw [sm_hcu HH], hcc⟩
end
end
section
/-! a step of the top frame: frames stay related -/
section
variable {xle xpe sta opn xch xck xbc xcb xcc col res yh yd : Int32} {cp lm np nt fr sb us bo oc : Nat} {pm vs mk fi tk xo xj ow xh xk xl fp fa fh cb : Nat → Nat} {gl : Nat → Bool} {xbk xbp xbh sl cn cl cr fw ou yt yb ys yr lo st he nu lf rg : Nat → Int32} {hh kk dp : Nat → Nat} {pt hd : Nat → Nat → Nat}
variable {f s t : Nat} {us' sb' : Nat} {cb' : Nat → Nat} {sl' lo' st' : Nat → Int32}
def sm_Vm (us sb : Nat) (cb : Nat → Nat) (us' sb' : Nat) (cb' : Nat → Nat) : Prop := ∀ a b, sm_VR us sb cb a b → sm_VR us' sb' cb' a b
theorem sm_VKm {k : Bool} {a b : Int32} (m : sm_Vm us sb cb us' sb' cb') (h : sm_VK us sb cb k a b) : sm_VK us' sb' cb' k a b := ⟨h.1, fun z => m a b (h.2 z)⟩
/-- a lower frame -/
theorem sm_low {g : Nat} {fa' fh' : Nat → Nat} (hg : g < f) (m : sm_Vm us sb cb us' sb' cb') (h : sm_FR np nt (f + 1) us sb pm vs mk tk ow hh kk xl fp fa fh cb sl lo st g) (hv8 : vs (fp g) ≤ 8) (hf8 : fh g ≤ 8)
    (e1 : fa' g = fa g) (e2 : fh' g = fh g) (e3 : ∀ j, j < f * 16 → sl' j = sl j) (e4 : ∀ j, j < f * 8 → lo' j = lo j) (e5 : ∀ j, j < f * 8 → st' j = st j) :
    sm_FR np nt (f + 1) us' sb' pm vs mk tk ow hh kk xl fp fa' fh' cb' sl' lo' st' g := by
  obtain ⟨f1, f2, f3, f4, f5⟩ := h
  unfold sm_FR
  rw [e1, e2]
  refine ⟨f1, f2, f3, fun v hv => ?_, fun j hj => ?_⟩
  · rw [e3 _ (by omega), e4 _ (by omega)]
    exact ⟨(f4 v hv).1, fun a b => m _ _ ((f4 v hv).2 a b)⟩
  · rw [e3 _ (by omega), e5 _ (by omega)]
    exact sm_VKm m (f5 j hj)
/-- liveness at a successor -/
theorem sm_lmono (hP : sm_PG 0 np nt pm vs mk gl fi tk xo xj ow hh kk dp pt hd) (hL : sm_LV nt tk xo xj xl) {i v : Nat} (hi : i < nt) (hv : v < 8) (hs : sm_s1 xo xj i = some s ∨ sm_s2 xo xj i = some s) (h14 : tk i ≠ 14 + 100 * v) (hb : (xl s).testBit v = true) : (xl i).testBit v = true := by
  have hs2 : s < nt := by
    rcases hs with h | h
    · exact (sm_s1f hP hi h).1
    · exact (sm_s2f hP hi h).1
  exact ((hL i hi).2 v hv).mpr (sm_ls_e (((hL s hs2).2 v hv).mp hb) ⟨hi, h14, hs⟩)
theorem sm_sf (hP : sm_PG 0 np nt pm vs mk gl fi tk xo xj ow hh kk dp pt hd) {i : Nat} (hi : i < nt) (hs : sm_s1 xo xj i = some s ∨ sm_s2 xo xj i = some s) : s < nt ∧ ow s = ow i ∧ hh s = hh (i + 1) ∧ kk s = kk (i + 1) := by
  rcases hs with h | h
  · exact sm_s1f hP hi h
  · exact sm_s2f hP hi h
theorem sm_fh8 (hP : sm_PG 0 np nt pm vs mk gl fi tk xo xj ow hh kk dp pt hd) {g : Nat} (hg : g < fr) (h : sm_FR np nt fr us sb pm vs mk tk ow hh kk xl fp fa fh cb sl lo st g) : vs (fp g) ≤ 8 ∧ fh g ≤ 8 := by
  obtain ⟨f1, f2, f3, _⟩ := h
  have hb := (sm_PH hP (show fa g ≤ nt by omega)).1
  refine ⟨(sm_PQ hP f1.1).2.2.1, ?_⟩
  by_cases e : g + 1 = fr
  · rw [f2 e]; exact hb
  · have := (f3 (by omega)).2.1
    omega
/-- the top frame goes on with one more entry -/
theorem sm_rnPush {a b : Int32} (hP : sm_PG 0 np nt pm vs mk gl fi tk xo xj ow hh kk dp pt hd) (hL : sm_LV nt tk xo xj xl) (hF : sm_RN np nt (f + 1) us sb lm pm vs mk tk ow hh kk xl fp fa fh cb sl lo st) (m : sm_Vm us sb cb us' sb' cb')
    (hs : sm_s1 xo xj (fa f) = some s ∨ sm_s2 xo xj (fa f) = some s) (h13 : tk (fa f) % 100 ≤ 13) (hv : sm_VK us' sb' cb' (sm_pk mk gl (fp f) (tk (fa f))) a b) :
    sm_RN np nt (f + 1) us' sb' lm pm vs mk tk ow hh kk xl fp (sm_u fa f s) (sm_u fh f (hh (fa f) - sm_pop pm (tk (fa f)) + 1)) cb' (upd sl (f * 16 + 8 + (hh (fa f) - sm_pop pm (tk (fa f)))) a) lo (upd st (f * 8 + (hh (fa f) - sm_pop pm (tk (fa f)))) b) := by
  obtain ⟨r1, r2, hF⟩ := hF
  refine ⟨r1, r2, fun g hg => ?_⟩
  have hFf := hF f (by omega)
  obtain ⟨f1, f2, f3, f4, f5⟩ := hFf
  have f2 := f2 rfl
  obtain ⟨s1, s2, s3, s4⟩ := sm_sf hP f1.2.1 hs
  obtain ⟨b1, b2, b3, b4, b5, b6⟩ := sm_PB hP f1.2.1
  have hps : sm_ps (tk (fa f)) = 1 := if_pos h13
  have hb := (sm_PH hP (show fa f ≤ nt by omega)).1
  have h8 : hh (fa f) - sm_pop pm (tk (fa f)) < 8 := by rw [b4] at b5; unfold sm_h2 at b5; omega
  have hvs := (sm_PQ hP f1.1).2.2.1
  by_cases eg : g = f
  · subst eg
    unfold sm_FR
    rw [sm_us, sm_us]
    refine ⟨⟨f1.1, s1, by rw [s2]; exact f1.2.2⟩, fun _ => ?_, fun z => by omega, fun v hv => ?_, fun j hj => ?_⟩
    · rw [s3, b4]; unfold sm_h2; omega
    · rw [pk_un (by omega)]
      refine ⟨(f4 v hv).1, fun z1 z2 => m _ _ ((f4 v hv).2 z1 (sm_lmono hP hL f1.2.1 (by omega) hs (by omega) z2))⟩
    · rw [s4, b6, sm_k2t, f1.2.2]
      by_cases ej : j = hh (fa g) - sm_pop pm (tk (fa g))
      · rw [ej, pk_us, pk_us, if_neg (by omega), decide_eq_true h13, decide_eq_true rfl]
        exact hv
      · rw [pk_un (by omega), pk_un (by omega), if_pos (by omega)]
        exact sm_VKm m (f5 j (by omega))
  · have hFg := hF g hg
    have h88 := sm_fh8 hP hg hFg
    refine sm_low (by omega) m hFg h88.1 h88.2 (sm_un eg) (sm_un eg) (fun j hj => pk_un (by omega)) (fun _ _ => rfl) (fun j hj => pk_un (by omega))
/-- the top frame goes on with no new entry -/
theorem sm_rnPop (hP : sm_PG 0 np nt pm vs mk gl fi tk xo xj ow hh kk dp pt hd) (hL : sm_LV nt tk xo xj xl) (hF : sm_RN np nt (f + 1) us sb lm pm vs mk tk ow hh kk xl fp fa fh cb sl lo st) (m : sm_Vm us sb cb us' sb' cb')
    (hs : sm_s1 xo xj (fa f) = some s ∨ sm_s2 xo xj (fa f) = some s) (h13 : 13 < tk (fa f) % 100) (h14 : tk (fa f) % 100 ≠ 14) :
    sm_RN np nt (f + 1) us' sb' lm pm vs mk tk ow hh kk xl fp (sm_u fa f s) (sm_u fh f (hh (fa f) - sm_pop pm (tk (fa f)))) cb' sl lo st := by
  obtain ⟨r1, r2, hF⟩ := hF
  refine ⟨r1, r2, fun g hg => ?_⟩
  have hFf := hF f (by omega)
  obtain ⟨f1, f2, f3, f4, f5⟩ := hFf
  have f2 := f2 rfl
  obtain ⟨s1, s2, s3, s4⟩ := sm_sf hP f1.2.1 hs
  obtain ⟨b1, b2, b3, b4, b5, b6⟩ := sm_PB hP f1.2.1
  have hps : sm_ps (tk (fa f)) = 0 := if_neg (by omega)
  have hvs := (sm_PQ hP f1.1).2.2.1
  by_cases eg : g = f
  · subst eg
    unfold sm_FR
    rw [sm_us, sm_us]
    refine ⟨⟨f1.1, s1, by rw [s2]; exact f1.2.2⟩, fun _ => ?_, fun z => by omega, fun v hv => ?_, fun j hj => ?_⟩
    · rw [s3, b4]; unfold sm_h2; omega
    · exact ⟨(f4 v hv).1, fun z1 z2 => m _ _ ((f4 v hv).2 z1 (sm_lmono hP hL f1.2.1 (by omega) hs (by omega) z2))⟩
    · rw [s4, b6, sm_k2t, if_pos hj]
      exact sm_VKm m (f5 j (by omega))
  · have hFg := hF g hg
    have h88 := sm_fh8 hP hg hFg
    exact sm_low (by omega) m hFg h88.1 h88.2 (sm_un eg) (sm_un eg) (fun j hj => rfl) (fun _ _ => rfl) (fun j hj => rfl)
/-- SET -/
theorem sm_rnSet {a b : Int32} (hP : sm_PG 0 np nt pm vs mk gl fi tk xo xj ow hh kk dp pt hd) (hL : sm_LV nt tk xo xj xl) (hF : sm_RN np nt (f + 1) us sb lm pm vs mk tk ow hh kk xl fp fa fh cb sl lo st)
    (hs : sm_s1 xo xj (fa f) = some s ∨ sm_s2 xo xj (fa f) = some s) (h14 : tk (fa f) % 100 = 14) (hv : sm_VK us sb cb ((mk (fp f)).testBit (tk (fa f) / 100)) a b) :
    sm_RN np nt (f + 1) us sb lm pm vs mk tk ow hh kk xl fp (sm_u fa f s) (sm_u fh f (hh (fa f) - sm_pop pm (tk (fa f)))) cb (upd sl (f * 16 + tk (fa f) / 100) a) (upd lo (f * 8 + tk (fa f) / 100) b) st := by
  obtain ⟨r1, r2, hF⟩ := hF
  refine ⟨r1, r2, fun g hg => ?_⟩
  have hFf := hF f (by omega)
  obtain ⟨f1, f2, f3, f4, f5⟩ := hFf
  have f2 := f2 rfl
  obtain ⟨s1, s2, s3, s4⟩ := sm_sf hP f1.2.1 hs
  obtain ⟨b1, b2, b3, b4, b5, b6⟩ := sm_PB hP f1.2.1
  have hps : sm_ps (tk (fa f)) = 0 := if_neg (by omega)
  have hvs := (sm_PQ hP f1.1).2.2.1
  have hav := (sm_PA hP f1.2.1).2.2.2.2.1 (Or.inr h14)
  rw [f1.2.2] at hav
  by_cases eg : g = f
  · subst eg
    unfold sm_FR
    rw [sm_us, sm_us]
    refine ⟨⟨f1.1, s1, by rw [s2]; exact f1.2.2⟩, fun _ => ?_, fun z => by omega, fun v hv2 => ?_, fun j hj => ?_⟩
    · rw [s3, b4]; unfold sm_h2; omega
    · by_cases ev : v = tk (fa g) / 100
      · rw [ev, pk_us, pk_us]
        exact ⟨hv.1, fun z _ => hv.2 z⟩
      · rw [pk_un (by omega), pk_un (by omega)]
        exact ⟨(f4 v hv2).1, fun z1 z2 => (f4 v hv2).2 z1 (sm_lmono hP hL f1.2.1 (by omega) hs (by omega) z2)⟩
    · rw [s4, b6, sm_k2t, if_pos hj, pk_un (by omega)]
      exact f5 j (by omega)
  · have hFg := hF g hg
    have h88 := sm_fh8 hP hg hFg
    exact sm_low (by omega) (fun _ _ h => h) hFg h88.1 h88.2 (sm_un eg) (sm_un eg) (fun j hj => pk_un (by omega)) (fun j hj => pk_un (by omega)) (fun j hj => rfl)
end
end
section
/-! outcomes; the reference's step -/
section
variable {xle xpe sta opn xch xck xbc xcb xcc col res yh yd : Int32} {cp lm np nt fr sb us bo oc : Nat} {pm vs mk fi tk xo xj ow xh xk xl fp fa fh cb : Nat → Nat} {gl : Nat → Bool} {xbk xbp xbh sl cn cl cr fw ou yt yb ys yr lo st he nu lf rg : Nat → Int32} {hh kk dp : Nat → Nat} {pt hd : Nat → Nat → Nat}
variable {f : Nat}
/-- one outcome for both sides -/
def sm_OUT (PX : (SX → Prop) → Prop) (PY : (SY → Prop) → Prop) : Prop := ∃ (xle xpe sta opn xch xck xbc xcb xcc col res : Int32) (cp lm np nt fr sb us bo oc : Nat) (pm vs mk fi tk xo xj ow xh xk xl fp fa fh cb : Nat → Nat) (gl : Nat → Bool) (xbk xbp xbh sl cn cl cr fw ou lo st he nu lf rg : Nat → Int32) (hh kk dp : Nat → Nat) (pt hd : Nat → Nat → Nat), sm_REL sta opn xch xck xbc cp lm np nt fr sb us bo oc pm vs mk fi tk xo xj ow xh xk xl fp fa fh cb gl xbk xbp xbh sl cn cl cr lo st he nu lf rg hh kk dp pt hd ∧ (∀ post : SX → Prop, post (xle, xpe, nI cp, nI lm, sta, nI np, opn, nI nt, xch, xck, xbc, nI fr, nI sb, nI us, xcb, xcc, col, nI bo, nI oc, res, sm_n pm, sm_n vs, sm_n mk, sm_k gl, sm_n fi, sm_n tk, sm_n xo, sm_n (sm_ar tk), sm_n xj, sm_n ow, sm_n xh, sm_n xk, sm_n xl, xbk, xbp, xbh, sm_n fp, sm_n fa, sl, cn, cl, cr, sm_n cb, fw, ou) → PX post) ∧ (∀ post : SY → Prop, (∀ (yh yd : Int32) (yt yb ys yr : Nat → Int32), post (nI cp, nI lm, sta, nI np, opn, nI nt, yh, yd, nI fr, nI bo, col, nI oc, res, sm_n tk, sm_n fi, sm_n pm, sm_n vs, sm_n mk, sm_k gl, yt, yb, ys, yr, sm_n fp, sm_n fa, sm_n fh, lo, st, he, nu, lf, rg, ou)) → PY post)
theorem sm_OUTi {PX : (SX → Prop) → Prop} {PY : (SY → Prop) → Prop} (R : sm_REL sta opn xch xck xbc cp lm np nt fr sb us bo oc pm vs mk fi tk xo xj ow xh xk xl fp fa fh cb gl xbk xbp xbh sl cn cl cr lo st he nu lf rg hh kk dp pt hd) (hX : ∀ post : SX → Prop, post (xle, xpe, nI cp, nI lm, sta, nI np, opn, nI nt, xch, xck, xbc, nI fr, nI sb, nI us, xcb, xcc, col, nI bo, nI oc, res, sm_n pm, sm_n vs, sm_n mk, sm_k gl, sm_n fi, sm_n tk, sm_n xo, sm_n (sm_ar tk), sm_n xj, sm_n ow, sm_n xh, sm_n xk, sm_n xl, xbk, xbp, xbh, sm_n fp, sm_n fa, sl, cn, cl, cr, sm_n cb, fw, ou) → PX post) (hY : ∀ post : SY → Prop, (∀ (yh yd : Int32) (yt yb ys yr : Nat → Int32), post (nI cp, nI lm, sta, nI np, opn, nI nt, yh, yd, nI fr, nI bo, col, nI oc, res, sm_n tk, sm_n fi, sm_n pm, sm_n vs, sm_n mk, sm_k gl, yt, yb, ys, yr, sm_n fp, sm_n fa, sm_n fh, lo, st, he, nu, lf, rg, ou)) → PY post) : sm_OUT PX PY :=
  ⟨xle, xpe, sta, opn, xch, xck, xbc, xcb, xcc, col, res, cp, lm, np, nt, fr, sb, us, bo, oc, pm, vs, mk, fi, tk, xo, xj, ow, xh, xk, xl, fp, fa, fh, cb, gl, xbk, xbp, xbh, sl, cn, cl, cr, fw, ou, lo, st, he, nu, lf, rg, hh, kk, dp, pt, hd, R, hX, hY⟩
theorem sm_OUTe {PX : (SX → Prop) → Prop} {PY : (SY → Prop) → Prop} {C : Prop} (I : sm_OUT PX PY) (h : ∀ (xle xpe sta opn xch xck xbc xcb xcc col res : Int32) (cp lm np nt fr sb us bo oc : Nat) (pm vs mk fi tk xo xj ow xh xk xl fp fa fh cb : Nat → Nat) (gl : Nat → Bool) (xbk xbp xbh sl cn cl cr fw ou lo st he nu lf rg : Nat → Int32) (hh kk dp : Nat → Nat) (pt hd : Nat → Nat → Nat), sm_REL sta opn xch xck xbc cp lm np nt fr sb us bo oc pm vs mk fi tk xo xj ow xh xk xl fp fa fh cb gl xbk xbp xbh sl cn cl cr lo st he nu lf rg hh kk dp pt hd → (∀ post : SX → Prop, post (xle, xpe, nI cp, nI lm, sta, nI np, opn, nI nt, xch, xck, xbc, nI fr, nI sb, nI us, xcb, xcc, col, nI bo, nI oc, res, sm_n pm, sm_n vs, sm_n mk, sm_k gl, sm_n fi, sm_n tk, sm_n xo, sm_n (sm_ar tk), sm_n xj, sm_n ow, sm_n xh, sm_n xk, sm_n xl, xbk, xbp, xbh, sm_n fp, sm_n fa, sl, cn, cl, cr, sm_n cb, fw, ou) → PX post) → (∀ post : SY → Prop, (∀ (yh yd : Int32) (yt yb ys yr : Nat → Int32), post (nI cp, nI lm, sta, nI np, opn, nI nt, yh, yd, nI fr, nI bo, col, nI oc, res, sm_n tk, sm_n fi, sm_n pm, sm_n vs, sm_n mk, sm_k gl, yt, yb, ys, yr, sm_n fp, sm_n fa, sm_n fh, lo, st, he, nu, lf, rg, ou)) → PY post) → C) : C :=
  Exists.elim I fun xle I => Exists.elim I fun xpe I => Exists.elim I fun sta I => Exists.elim I fun opn I => Exists.elim I fun xch I => Exists.elim I fun xck I => Exists.elim I fun xbc I => Exists.elim I fun xcb I => Exists.elim I fun xcc I => Exists.elim I fun col I => Exists.elim I fun res I => Exists.elim I fun cp I => Exists.elim I fun lm I => Exists.elim I fun np I => Exists.elim I fun nt I => Exists.elim I fun fr I => Exists.elim I fun sb I => Exists.elim I fun us I => Exists.elim I fun bo I => Exists.elim I fun oc I => Exists.elim I fun pm I => Exists.elim I fun vs I => Exists.elim I fun mk I => Exists.elim I fun fi I => Exists.elim I fun tk I => Exists.elim I fun xo I => Exists.elim I fun xj I => Exists.elim I fun ow I => Exists.elim I fun xh I => Exists.elim I fun xk I => Exists.elim I fun xl I => Exists.elim I fun fp I => Exists.elim I fun fa I => Exists.elim I fun fh I => Exists.elim I fun cb I => Exists.elim I fun gl I => Exists.elim I fun xbk I => Exists.elim I fun xbp I => Exists.elim I fun xbh I => Exists.elim I fun sl I => Exists.elim I fun cn I => Exists.elim I fun cl I => Exists.elim I fun cr I => Exists.elim I fun fw I => Exists.elim I fun ou I => Exists.elim I fun lo I => Exists.elim I fun st I => Exists.elim I fun he I => Exists.elim I fun nu I => Exists.elim I fun lf I => Exists.elim I fun rg I => Exists.elim I fun hh I => Exists.elim I fun kk I => Exists.elim I fun dp I => Exists.elim I fun pt I => Exists.elim I fun hd I => h xle xpe sta opn xch xck xbc xcb xcc col res cp lm np nt fr sb us bo oc pm vs mk fi tk xo xj ow xh xk xl fp fa fh cb gl xbk xbp xbh sl cn cl cr fw ou lo st he nu lf rg hh kk dp pt hd I.1 I.2.1 I.2.2
/-- the two entries on top -/
def sm_x6 (st : Nat → Int32) (f h : Nat) : Int32 := if h = 0 then 0 else st (f * 8 + (h - 1))
def sm_x7 (st : Nat → Int32) (f h : Nat) : Int32 := if h ≤ 1 then 0 else st (f * 8 + (h - 2))
theorem sm_y128 {post : SY → Prop} (hP : sm_PG 0 np nt pm vs mk gl fi tk xo xj ow hh kk dp pt hd) (h8 : f < 8) (hi : fa f < nt) (hh8 : fh f ≤ 8)
    (h : ∀ x8, x8 = (if (tk (fa f) % 100 = 20 ∨ tk (fa f) % 100 = 23) ∧ sm_x6 st f (fh f) = 0 then sm_oI (sm_s2 xo xj (fa f)) else sm_oI (sm_s1 xo xj (fa f))) → wY_step_128 post (nI f) (nI (fa f)) (nI (tk (fa f) % 100)) (nI (tk (fa f) / 100)) (nI (f * 8 + fh f)) (sm_x6 st f (fh f)) (sm_x7 st f (fh f)) x8 (nI cp) (nI lm) sta (nI np) opn (nI nt) yh yd (nI (f + 1)) (nI bo) col (nI oc) res (sm_n tk) (sm_n fi) (sm_n pm) (sm_n vs) (sm_n mk) (sm_k gl) yt yb ys yr (sm_n fp) (sm_n fa) (sm_n fh) lo st he nu lf rg ou) : wpY_step post (nI cp, nI lm, sta, nI np, opn, nI nt, yh, yd, nI (f + 1), nI bo, col, nI oc, res, sm_n tk, sm_n fi, sm_n pm, sm_n vs, sm_n mk, sm_k gl, yt, yb, ys, yr, sm_n fp, sm_n fa, sm_n fh, lo, st, he, nu, lf, rg, ou) := by
  have n160 := hP.1.2.1
  have t6 := (sm_PA hP hi).2.2.1
  have o2 := (sm_PA hP hi).2.1
  have v8 : vp_in (nI f) 8 := vp_in_nI h8 (by decide)
  have c8 : (nI f).toNatClampNeg = f := nI_clamp (by omega)
  have vi : vp_in (nI (fa f)) 160 := vp_in_nI (by omega) (by decide)
  have ci : (nI (fa f)).toNatClampNeg = fa f := nI_clamp (by omega)
  have k95 : wY_step_95 post (nI f) (nI (fa f)) (nI (tk (fa f) % 100)) (nI (tk (fa f) / 100)) (nI (f * 8 + fh f)) (sm_x6 st f (fh f)) (sm_x7 st f (fh f)) (nI cp) (nI lm) sta (nI np) opn (nI nt) yh yd (nI (f + 1)) (nI bo) col (nI oc) res (sm_n tk) (sm_n fi) (sm_n pm) (sm_n vs) (sm_n mk) (sm_k gl) yt yb ys yr (sm_n fp) (sm_n fa) (sm_n fh) lo st he nu lf rg ou := by
    unfold wY_step_95
    refine sm_ysu hP hi ?_
    have k116 : tk (fa f) % 100 = 20 ∨ tk (fa f) % 100 = 23 → wY_step_116 post (nI f) (nI (fa f)) (nI (tk (fa f) % 100)) (nI (tk (fa f) / 100)) (nI (f * 8 + fh f)) (sm_x6 st f (fh f)) (sm_x7 st f (fh f)) (sm_oI (sm_s1 xo xj (fa f))) (nI cp) (nI lm) sta (nI np) opn (nI nt) yh yd (nI (f + 1)) (nI bo) col (nI oc) res (sm_n tk) (sm_n fi) (sm_n pm) (sm_n vs) (sm_n mk) (sm_k gl) yt yb ys yr (sm_n fp) (sm_n fa) (sm_n fh) lo st he nu lf rg ou := fun e =>
      br_c (fun z => sm_yot hP hi (h _ (if_pos ⟨e, z⟩).symm)) (fun z => h _ (if_neg (fun y => z y.2)).symm)
    exact pk_eq (tk (fa f) % 100) 20 (fun e => k116 (Or.inl e)) (fun e1 => pk_eq (tk (fa f) % 100) 23 (fun e => k116 (Or.inr e)) (fun e2 => h _ (if_neg (fun y => by omega)).symm))
  have k70 : wY_step_70 post (nI f) (nI (fa f)) (nI (tk (fa f) % 100)) (nI (tk (fa f) / 100)) (nI (f * 8 + fh f)) (sm_x6 st f (fh f)) (nI cp) (nI lm) sta (nI np) opn (nI nt) yh yd (nI (f + 1)) (nI bo) col (nI oc) res (sm_n tk) (sm_n fi) (sm_n pm) (sm_n vs) (sm_n mk) (sm_k gl) yt yb ys yr (sm_n fp) (sm_n fa) (sm_n fh) lo st he nu lf rg ou := by
    unfold wY_step_70
    rw [c8, sm_nap]
    unfold sm_x7 at k95
    refine And.intro v8 (pk_le (fh f) 1 (fun z => ?_) (fun z => ?_))
    · rw [if_pos z] at k95; exact k95
    · rw [if_neg (by omega)] at k95
      rw [sm_sb2 (by omega), nI_clamp (show f * 8 + fh f - 2 < 2 ^ 31 by omega), show f * 8 + fh f - 2 = f * 8 + (fh f - 2) by omega]
      exact ⟨vp_in_nI (by omega) (by decide), k95⟩
  refine nm_r (e' := nI f) (nI_pred f) (And.intro v8 (nm_r (e' := nI (fa f)) (by rw [c8, sm_nap]) (And.intro vi (And.intro sm_100 (nm_r (e' := nI (tk (fa f) % 100)) (by rw [ci, sm_nap, sm_rm (by omega)]) (And.intro vi (And.intro sm_100 (nm_r (e' := nI (tk (fa f) / 100)) (by rw [ci, sm_nap, sm_dv (by omega)]) (And.intro v8 (nm_r (e' := nI (f * 8 + fh f)) (by rw [c8, sm_nap, sm_mu8, nI_add]) (And.intro v8 ?_)))))))))))
  rw [c8, sm_nap]
  unfold sm_x6 at k70
  refine pk_le (fh f) 0 (fun z => ?_) (fun z => ?_)
  · rw [if_pos (by omega)] at k70; exact k70
  · rw [if_neg (by omega)] at k70
    rw [sm_sb1 (by omega), nI_clamp (show f * 8 + fh f - 1 < 2 ^ 31 by omega), show f * 8 + fh f - 1 = f * 8 + (fh f - 1) by omega]
    exact ⟨vp_in_nI (by omega) (by decide), k70⟩
/-- the last join -/
theorem sm_y549a {post : SY → Prop} {x9 : Int32} {s : Nat} (hP : sm_PG 0 np nt pm vs mk gl fi tk xo xj ow hh kk dp pt hd) (h8 : f < 8) (hi : fa f < nt) (hh8 : fh f ≤ 8) (hp : ow (fa f) = fp f) (hle : sm_pop pm (tk (fa f)) ≤ fh f) (h13 : tk (fa f) % 100 ≤ 13) (hr : fh f - sm_pop pm (tk (fa f)) < 8)
    (h : post (nI cp, nI lm, sta, nI np, opn, nI nt, yh, yd, nI fr, nI bo, col, nI oc, res, sm_n tk, sm_n fi, sm_n pm, sm_n vs, sm_n mk, sm_k gl, yt, yb, ys, yr, sm_n fp, sm_n (sm_u fa f s), sm_n (sm_u fh f (fh f - sm_pop pm (tk (fa f)) + 1)), lo, upd st (f * 8 + (fh f - sm_pop pm (tk (fa f)))) x9, he, nu, lf, rg, ou)) : wY_step_549 post (nI f) (nI (fa f)) (nI s) x9 (nI cp) (nI lm) sta (nI np) opn (nI nt) yh yd (nI fr) (nI bo) col (nI oc) res (sm_n tk) (sm_n fi) (sm_n pm) (sm_n vs) (sm_n mk) (sm_k gl) yt yb ys yr (sm_n fp) (sm_n fa) (sm_n fh) lo st he nu lf rg ou := by
  have n160 := hP.1.2.1
  have n8 := hP.1.1
  obtain ⟨a1, a2, a3, a4, a5, a6, a7⟩ := sm_PA hP hi
  have v8 : vp_in (nI f) 8 := vp_in_nI h8 (by decide)
  have c8 : (nI f).toNatClampNeg = f := nI_clamp (by omega)
  have vi : vp_in (nI (fa f)) 160 := vp_in_nI (by omega) (by decide)
  have ci : (nI (fa f)).toNatClampNeg = fa f := nI_clamp (by omega)
  rw [hp] at a5 a7
  have hvs := (sm_PQ hP a7).2.2.1
  unfold wY_step_549
  rw [ci, sm_nap, c8, sm_nap, sm_nap]
  refine And.intro vi (sm_ypop a3 (fun z => by have := a6 z; omega) (And.intro vi (And.intro v8 (sm_yps a3 (by omega) (sm_mk8 hP a7) (fun z => by have := a6 z; omega) (fun z => by have := a5 (Or.inl z); omega) (fun _ => ?_) (fun z => absurd z (by omega))))))
  refine And.intro v8 (And.intro v8 (nm_r (e' := sm_n (sm_u fh f (fh f - sm_pop pm (tk (fa f))))) (by rw [pk_sub hle, sm_nu]) (br_f (sm_bl _) ?_)))
  rw [sm_nap, sm_us, sm_mu8, nI_add, nI_clamp (show f * 8 + (fh f - sm_pop pm (tk (fa f))) < 2 ^ 31 by omega)]
  exact ⟨v8, vp_in_nI (by omega) (by decide), nm_e ⟨v8, v8, nm_r (e' := sm_n (sm_u fh f (fh f - sm_pop pm (tk (fa f)) + 1))) (by rw [nI_1, sm_nu, sm_uuN]) ⟨v8, nm_r (sm_nu _ _ _) h⟩⟩⟩
theorem sm_y549b {post : SY → Prop} {x9 : Int32} {s : Nat} (hP : sm_PG 0 np nt pm vs mk gl fi tk xo xj ow hh kk dp pt hd) (h8 : f < 8) (hi : fa f < nt) (hh8 : fh f ≤ 8) (hp : ow (fa f) = fp f) (hle : sm_pop pm (tk (fa f)) ≤ fh f) (h13 : 13 < tk (fa f) % 100)
    (h : post (nI cp, nI lm, sta, nI np, opn, nI nt, yh, yd, nI fr, nI bo, col, nI oc, res, sm_n tk, sm_n fi, sm_n pm, sm_n vs, sm_n mk, sm_k gl, yt, yb, ys, yr, sm_n fp, sm_n (sm_u fa f s), sm_n (sm_u fh f (fh f - sm_pop pm (tk (fa f)))), lo, st, he, nu, lf, rg, ou)) : wY_step_549 post (nI f) (nI (fa f)) (nI s) x9 (nI cp) (nI lm) sta (nI np) opn (nI nt) yh yd (nI fr) (nI bo) col (nI oc) res (sm_n tk) (sm_n fi) (sm_n pm) (sm_n vs) (sm_n mk) (sm_k gl) yt yb ys yr (sm_n fp) (sm_n fa) (sm_n fh) lo st he nu lf rg ou := by
  have n160 := hP.1.2.1
  have n8 := hP.1.1
  obtain ⟨a1, a2, a3, a4, a5, a6, a7⟩ := sm_PA hP hi
  have v8 : vp_in (nI f) 8 := vp_in_nI h8 (by decide)
  have c8 : (nI f).toNatClampNeg = f := nI_clamp (by omega)
  have vi : vp_in (nI (fa f)) 160 := vp_in_nI (by omega) (by decide)
  have ci : (nI (fa f)).toNatClampNeg = fa f := nI_clamp (by omega)
  rw [hp] at a5 a7
  have hvs := (sm_PQ hP a7).2.2.1
  unfold wY_step_549
  rw [ci, sm_nap, c8, sm_nap, sm_nap]
  refine And.intro vi (sm_ypop a3 (fun z => by have := a6 z; omega) (And.intro vi (And.intro v8 (sm_yps a3 (by omega) (sm_mk8 hP a7) (fun z => by have := a6 z; omega) (fun z => by have := a5 (Or.inl z); omega) (fun z => absurd z (by omega)) (fun _ => ?_)))))
  exact And.intro v8 (And.intro v8 (nm_r (e' := sm_n (sm_u fh f (fh f - sm_pop pm (tk (fa f))))) (by rw [pk_sub hle, sm_nu]) (br_t (by decide) ⟨v8, nm_r (sm_nu _ _ _) h⟩)))
theorem sm_yc1 {post : SY → Prop} {x1 x2 x4 x5 x6 x7 x8 : Int32} (h : wY_step_549 post x1 x2 x8 x4 (nI cp) (nI lm) sta (nI np) opn (nI nt) yh yd (nI fr) (nI bo) col (nI oc) res (sm_n tk) (sm_n fi) (sm_n pm) (sm_n vs) (sm_n mk) (sm_k gl) yt yb ys yr (sm_n fp) (sm_n fa) (sm_n fh) lo st he nu lf rg ou) : wY_step_240 post x1 x2 1 x4 x5 x6 x7 x8 (nI cp) (nI lm) sta (nI np) opn (nI nt) yh yd (nI fr) (nI bo) col (nI oc) res (sm_n tk) (sm_n fi) (sm_n pm) (sm_n vs) (sm_n mk) (sm_k gl) yt yb ys yr (sm_n fp) (sm_n fa) (sm_n fh) lo st he nu lf rg ou :=
  br_t (by decide) (br_f (by decide) (br_f (by decide) (br_f (by decide) (br_f (by decide) (br_f (by decide) (br_f (by decide) (br_f (by decide) (br_f (by decide) (br_f (by decide) (br_f (by decide) (br_f (by decide) (br_f (by decide) (br_f (by decide) (br_f (by decide) (br_f (by decide) (h))))))))))))))))
theorem sm_yc2 {post : SY → Prop} {x1 x2 x4 x5 x6 x7 x8 : Int32} (h : wY_step_549 post x1 x2 x8 0 (nI cp) (nI lm) sta (nI np) opn (nI nt) yh yd (nI fr) (nI bo) col (nI oc) res (sm_n tk) (sm_n fi) (sm_n pm) (sm_n vs) (sm_n mk) (sm_k gl) yt yb ys yr (sm_n fp) (sm_n fa) (sm_n fh) lo st he nu lf rg ou) : wY_step_240 post x1 x2 2 x4 x5 x6 x7 x8 (nI cp) (nI lm) sta (nI np) opn (nI nt) yh yd (nI fr) (nI bo) col (nI oc) res (sm_n tk) (sm_n fi) (sm_n pm) (sm_n vs) (sm_n mk) (sm_k gl) yt yb ys yr (sm_n fp) (sm_n fa) (sm_n fh) lo st he nu lf rg ou :=
  br_f (by decide) (br_f (by decide) (br_f (by decide) (br_f (by decide) (br_f (by decide) (br_f (by decide) (br_f (by decide) (br_f (by decide) (br_f (by decide) (br_f (by decide) (br_f (by decide) (br_f (by decide) (br_f (by decide) (br_f (by decide) (br_f (by decide) (br_f (by decide) (h))))))))))))))))
theorem sm_yc3 {post : SY → Prop} {x1 x2 x4 x5 x6 x7 x8 : Int32} {k : Nat} (hk : x1 * 8 + x4 = nI k) (hk2 : k < 64) (h : wY_step_549 post x1 x2 x8 (lo k) (nI cp) (nI lm) sta (nI np) opn (nI nt) yh yd (nI fr) (nI bo) col (nI oc) res (sm_n tk) (sm_n fi) (sm_n pm) (sm_n vs) (sm_n mk) (sm_k gl) yt yb ys yr (sm_n fp) (sm_n fa) (sm_n fh) lo st he nu lf rg ou) : wY_step_240 post x1 x2 3 x4 x5 x6 x7 x8 (nI cp) (nI lm) sta (nI np) opn (nI nt) yh yd (nI fr) (nI bo) col (nI oc) res (sm_n tk) (sm_n fi) (sm_n pm) (sm_n vs) (sm_n mk) (sm_k gl) yt yb ys yr (sm_n fp) (sm_n fa) (sm_n fh) lo st he nu lf rg ou :=
  br_f (by decide) (br_t (by decide) (And.intro (by rw [hk]; exact vp_in_nI hk2 (by decide)) (nm_r (e' := lo k) (by rw [hk, nI_clamp (by omega)]) (br_f (by decide) (br_f (by decide) (br_f (by decide) (br_f (by decide) (br_f (by decide) (br_f (by decide) (br_f (by decide) (br_f (by decide) (br_f (by decide) (br_f (by decide) (br_f (by decide) (br_f (by decide) (br_f (by decide) (br_f (by decide) (h))))))))))))))))))
theorem sm_yc4 {post : SY → Prop} {x1 x2 x4 x5 x6 x7 x8 : Int32} (h : wY_step_549 post x1 x2 x8 (x7 + x6) (nI cp) (nI lm) sta (nI np) opn (nI nt) yh yd (nI fr) (nI bo) col (nI oc) res (sm_n tk) (sm_n fi) (sm_n pm) (sm_n vs) (sm_n mk) (sm_k gl) yt yb ys yr (sm_n fp) (sm_n fa) (sm_n fh) lo st he nu lf rg ou) : wY_step_240 post x1 x2 4 x4 x5 x6 x7 x8 (nI cp) (nI lm) sta (nI np) opn (nI nt) yh yd (nI fr) (nI bo) col (nI oc) res (sm_n tk) (sm_n fi) (sm_n pm) (sm_n vs) (sm_n mk) (sm_k gl) yt yb ys yr (sm_n fp) (sm_n fa) (sm_n fh) lo st he nu lf rg ou :=
  br_f (by decide) (br_f (by decide) (br_t (by decide) (nm_e (br_f (by decide) (br_f (by decide) (br_f (by decide) (br_f (by decide) (br_f (by decide) (br_f (by decide) (br_f (by decide) (br_f (by decide) (br_f (by decide) (br_f (by decide) (br_f (by decide) (br_f (by decide) (br_f (by decide) (h)))))))))))))))))
theorem sm_yc5 {post : SY → Prop} {x1 x2 x4 x5 x6 x7 x8 : Int32} (h : wY_step_549 post x1 x2 x8 (x7 - x6) (nI cp) (nI lm) sta (nI np) opn (nI nt) yh yd (nI fr) (nI bo) col (nI oc) res (sm_n tk) (sm_n fi) (sm_n pm) (sm_n vs) (sm_n mk) (sm_k gl) yt yb ys yr (sm_n fp) (sm_n fa) (sm_n fh) lo st he nu lf rg ou) : wY_step_240 post x1 x2 5 x4 x5 x6 x7 x8 (nI cp) (nI lm) sta (nI np) opn (nI nt) yh yd (nI fr) (nI bo) col (nI oc) res (sm_n tk) (sm_n fi) (sm_n pm) (sm_n vs) (sm_n mk) (sm_k gl) yt yb ys yr (sm_n fp) (sm_n fa) (sm_n fh) lo st he nu lf rg ou :=
  br_f (by decide) (br_f (by decide) (br_f (by decide) (br_t (by decide) (nm_e (br_f (by decide) (br_f (by decide) (br_f (by decide) (br_f (by decide) (br_f (by decide) (br_f (by decide) (br_f (by decide) (br_f (by decide) (br_f (by decide) (br_f (by decide) (br_f (by decide) (br_f (by decide) (h)))))))))))))))))
theorem sm_yc6 {post : SY → Prop} {x1 x2 x4 x5 x6 x7 x8 : Int32} (h : wY_step_549 post x1 x2 x8 (x7 * x6) (nI cp) (nI lm) sta (nI np) opn (nI nt) yh yd (nI fr) (nI bo) col (nI oc) res (sm_n tk) (sm_n fi) (sm_n pm) (sm_n vs) (sm_n mk) (sm_k gl) yt yb ys yr (sm_n fp) (sm_n fa) (sm_n fh) lo st he nu lf rg ou) : wY_step_240 post x1 x2 6 x4 x5 x6 x7 x8 (nI cp) (nI lm) sta (nI np) opn (nI nt) yh yd (nI fr) (nI bo) col (nI oc) res (sm_n tk) (sm_n fi) (sm_n pm) (sm_n vs) (sm_n mk) (sm_k gl) yt yb ys yr (sm_n fp) (sm_n fa) (sm_n fh) lo st he nu lf rg ou :=
  br_f (by decide) (br_f (by decide) (br_f (by decide) (br_f (by decide) (br_t (by decide) (nm_e (br_f (by decide) (br_f (by decide) (br_f (by decide) (br_f (by decide) (br_f (by decide) (br_f (by decide) (br_f (by decide) (br_f (by decide) (br_f (by decide) (br_f (by decide) (br_f (by decide) (h)))))))))))))))))
theorem sm_yc7 {post : SY → Prop} {x1 x2 x4 x5 x6 x7 x8 : Int32} (h1 : x6 ≤ x7 → wY_step_549 post x1 x2 x8 0 (nI cp) (nI lm) sta (nI np) opn (nI nt) yh yd (nI fr) (nI bo) col (nI oc) res (sm_n tk) (sm_n fi) (sm_n pm) (sm_n vs) (sm_n mk) (sm_k gl) yt yb ys yr (sm_n fp) (sm_n fa) (sm_n fh) lo st he nu lf rg ou) (h2 : ¬ x6 ≤ x7 → wY_step_549 post x1 x2 x8 1 (nI cp) (nI lm) sta (nI np) opn (nI nt) yh yd (nI fr) (nI bo) col (nI oc) res (sm_n tk) (sm_n fi) (sm_n pm) (sm_n vs) (sm_n mk) (sm_k gl) yt yb ys yr (sm_n fp) (sm_n fa) (sm_n fh) lo st he nu lf rg ou) : wY_step_240 post x1 x2 7 x4 x5 x6 x7 x8 (nI cp) (nI lm) sta (nI np) opn (nI nt) yh yd (nI fr) (nI bo) col (nI oc) res (sm_n tk) (sm_n fi) (sm_n pm) (sm_n vs) (sm_n mk) (sm_k gl) yt yb ys yr (sm_n fp) (sm_n fa) (sm_n fh) lo st he nu lf rg ou := by
  have k : ∀ x9, wY_step_549 post x1 x2 x8 x9 (nI cp) (nI lm) sta (nI np) opn (nI nt) yh yd (nI fr) (nI bo) col (nI oc) res (sm_n tk) (sm_n fi) (sm_n pm) (sm_n vs) (sm_n mk) (sm_k gl) yt yb ys yr (sm_n fp) (sm_n fa) (sm_n fh) lo st he nu lf rg ou → wY_step_328 post x1 x2 7 x4 x5 x6 x7 x8 x9 (nI cp) (nI lm) sta (nI np) opn (nI nt) yh yd (nI fr) (nI bo) col (nI oc) res (sm_n tk) (sm_n fi) (sm_n pm) (sm_n vs) (sm_n mk) (sm_k gl) yt yb ys yr (sm_n fp) (sm_n fa) (sm_n fh) lo st he nu lf rg ou := fun x9 h =>
    br_f (by decide) (br_f (by decide) (br_f (by decide) (br_f (by decide) (br_f (by decide) (br_f (by decide) (br_f (by decide) (br_f (by decide) (br_f (by decide) (br_f (by decide) (h))))))))))
  exact br_f (by decide) (br_f (by decide) (br_f (by decide) (br_f (by decide) (br_f (by decide) (br_t (by decide) (br_c (fun z => k 0 (h1 z)) (fun z => k 1 (h2 z))))))))
theorem sm_yc8 {post : SY → Prop} {x1 x2 x4 x5 x6 x7 x8 : Int32} (h1 : x7 = x6 → wY_step_549 post x1 x2 x8 1 (nI cp) (nI lm) sta (nI np) opn (nI nt) yh yd (nI fr) (nI bo) col (nI oc) res (sm_n tk) (sm_n fi) (sm_n pm) (sm_n vs) (sm_n mk) (sm_k gl) yt yb ys yr (sm_n fp) (sm_n fa) (sm_n fh) lo st he nu lf rg ou) (h2 : ¬ x7 = x6 → wY_step_549 post x1 x2 x8 0 (nI cp) (nI lm) sta (nI np) opn (nI nt) yh yd (nI fr) (nI bo) col (nI oc) res (sm_n tk) (sm_n fi) (sm_n pm) (sm_n vs) (sm_n mk) (sm_k gl) yt yb ys yr (sm_n fp) (sm_n fa) (sm_n fh) lo st he nu lf rg ou) : wY_step_240 post x1 x2 8 x4 x5 x6 x7 x8 (nI cp) (nI lm) sta (nI np) opn (nI nt) yh yd (nI fr) (nI bo) col (nI oc) res (sm_n tk) (sm_n fi) (sm_n pm) (sm_n vs) (sm_n mk) (sm_k gl) yt yb ys yr (sm_n fp) (sm_n fa) (sm_n fh) lo st he nu lf rg ou := by
  have k : ∀ x9, wY_step_549 post x1 x2 x8 x9 (nI cp) (nI lm) sta (nI np) opn (nI nt) yh yd (nI fr) (nI bo) col (nI oc) res (sm_n tk) (sm_n fi) (sm_n pm) (sm_n vs) (sm_n mk) (sm_k gl) yt yb ys yr (sm_n fp) (sm_n fa) (sm_n fh) lo st he nu lf rg ou → wY_step_348 post x1 x2 8 x4 x5 x6 x7 x8 x9 (nI cp) (nI lm) sta (nI np) opn (nI nt) yh yd (nI fr) (nI bo) col (nI oc) res (sm_n tk) (sm_n fi) (sm_n pm) (sm_n vs) (sm_n mk) (sm_k gl) yt yb ys yr (sm_n fp) (sm_n fa) (sm_n fh) lo st he nu lf rg ou := fun x9 h =>
    br_f (by decide) (br_f (by decide) (br_f (by decide) (br_f (by decide) (br_f (by decide) (br_f (by decide) (br_f (by decide) (br_f (by decide) (br_f (by decide) (h)))))))))
  exact br_f (by decide) (br_f (by decide) (br_f (by decide) (br_f (by decide) (br_f (by decide) (br_f (by decide) (br_t (by decide) (br_c (fun z => k 1 (h1 z)) (fun z => k 0 (h2 z)))))))))
theorem sm_yc10 {post : SY → Prop} {x1 x2 x4 x5 x6 x7 x8 : Int32} {k : Nat} (hk : x6 = nI k) (hk2 : k < 121) (h : wY_step_549 post x1 x2 x8 (nu k) (nI cp) (nI lm) sta (nI np) opn (nI nt) yh yd (nI fr) (nI bo) col (nI oc) res (sm_n tk) (sm_n fi) (sm_n pm) (sm_n vs) (sm_n mk) (sm_k gl) yt yb ys yr (sm_n fp) (sm_n fa) (sm_n fh) lo st he nu lf rg ou) : wY_step_240 post x1 x2 10 x4 x5 x6 x7 x8 (nI cp) (nI lm) sta (nI np) opn (nI nt) yh yd (nI fr) (nI bo) col (nI oc) res (sm_n tk) (sm_n fi) (sm_n pm) (sm_n vs) (sm_n mk) (sm_k gl) yt yb ys yr (sm_n fp) (sm_n fa) (sm_n fh) lo st he nu lf rg ou :=
  br_f (by decide) (br_f (by decide) (br_f (by decide) (br_f (by decide) (br_f (by decide) (br_f (by decide) (br_f (by decide) (br_f (by decide) (br_t (by decide) (And.intro (by rw [hk]; exact vp_in_nI hk2 (by decide)) (nm_r (e' := nu k) (by rw [hk, nI_clamp (by omega)]) (br_f (by decide) (br_f (by decide) (br_f (by decide) (br_f (by decide) (br_f (by decide) (br_f (by decide) (br_f (by decide) (h))))))))))))))))))
theorem sm_yc11 {post : SY → Prop} {x1 x2 x4 x5 x6 x7 x8 : Int32} {k : Nat} (hk : x6 = nI k) (hk2 : k < 121) (h : wY_step_549 post x1 x2 x8 (lf k) (nI cp) (nI lm) sta (nI np) opn (nI nt) yh yd (nI fr) (nI bo) col (nI oc) res (sm_n tk) (sm_n fi) (sm_n pm) (sm_n vs) (sm_n mk) (sm_k gl) yt yb ys yr (sm_n fp) (sm_n fa) (sm_n fh) lo st he nu lf rg ou) : wY_step_240 post x1 x2 11 x4 x5 x6 x7 x8 (nI cp) (nI lm) sta (nI np) opn (nI nt) yh yd (nI fr) (nI bo) col (nI oc) res (sm_n tk) (sm_n fi) (sm_n pm) (sm_n vs) (sm_n mk) (sm_k gl) yt yb ys yr (sm_n fp) (sm_n fa) (sm_n fh) lo st he nu lf rg ou :=
  br_f (by decide) (br_f (by decide) (br_f (by decide) (br_f (by decide) (br_f (by decide) (br_f (by decide) (br_f (by decide) (br_f (by decide) (br_f (by decide) (br_t (by decide) (And.intro (by rw [hk]; exact vp_in_nI hk2 (by decide)) (nm_r (e' := lf k) (by rw [hk, nI_clamp (by omega)]) (br_f (by decide) (br_f (by decide) (br_f (by decide) (br_f (by decide) (br_f (by decide) (br_f (by decide) (h))))))))))))))))))
theorem sm_yc12 {post : SY → Prop} {x1 x2 x4 x5 x6 x7 x8 : Int32} {k : Nat} (hk : x6 = nI k) (hk2 : k < 121) (h : wY_step_549 post x1 x2 x8 (rg k) (nI cp) (nI lm) sta (nI np) opn (nI nt) yh yd (nI fr) (nI bo) col (nI oc) res (sm_n tk) (sm_n fi) (sm_n pm) (sm_n vs) (sm_n mk) (sm_k gl) yt yb ys yr (sm_n fp) (sm_n fa) (sm_n fh) lo st he nu lf rg ou) : wY_step_240 post x1 x2 12 x4 x5 x6 x7 x8 (nI cp) (nI lm) sta (nI np) opn (nI nt) yh yd (nI fr) (nI bo) col (nI oc) res (sm_n tk) (sm_n fi) (sm_n pm) (sm_n vs) (sm_n mk) (sm_k gl) yt yb ys yr (sm_n fp) (sm_n fa) (sm_n fh) lo st he nu lf rg ou :=
  br_f (by decide) (br_f (by decide) (br_f (by decide) (br_f (by decide) (br_f (by decide) (br_f (by decide) (br_f (by decide) (br_f (by decide) (br_f (by decide) (br_f (by decide) (br_t (by decide) (And.intro (by rw [hk]; exact vp_in_nI hk2 (by decide)) (nm_r (e' := rg k) (by rw [hk, nI_clamp (by omega)]) (br_f (by decide) (br_f (by decide) (br_f (by decide) (br_f (by decide) (br_f (by decide) (h))))))))))))))))))
theorem sm_yc14 {post : SY → Prop} {x1 x2 x4 x5 x6 x7 x8 : Int32} {k : Nat} (hk : x1 * 8 + x4 = nI k) (hk2 : k < 64) (h : wY_step_549 post x1 x2 x8 0 (nI cp) (nI lm) sta (nI np) opn (nI nt) yh yd (nI fr) (nI bo) col (nI oc) res (sm_n tk) (sm_n fi) (sm_n pm) (sm_n vs) (sm_n mk) (sm_k gl) yt yb ys yr (sm_n fp) (sm_n fa) (sm_n fh) (upd lo k x6) st he nu lf rg ou) : wY_step_240 post x1 x2 14 x4 x5 x6 x7 x8 (nI cp) (nI lm) sta (nI np) opn (nI nt) yh yd (nI fr) (nI bo) col (nI oc) res (sm_n tk) (sm_n fi) (sm_n pm) (sm_n vs) (sm_n mk) (sm_k gl) yt yb ys yr (sm_n fp) (sm_n fa) (sm_n fh) lo st he nu lf rg ou :=
  br_f (by decide) (br_f (by decide) (br_f (by decide) (br_f (by decide) (br_f (by decide) (br_f (by decide) (br_f (by decide) (br_f (by decide) (br_f (by decide) (br_f (by decide) (br_f (by decide) (br_t (by decide) (And.intro (by rw [hk]; exact vp_in_nI hk2 (by decide)) (nm_r (e' := upd lo k x6) (by rw [hk, nI_clamp (by omega)]) (br_f (by decide) (br_f (by decide) (br_f (by decide) (br_f (by decide) (h))))))))))))))))))
theorem sm_yc15 {post : SY → Prop} {x1 x2 x4 x5 x6 x7 x8 : Int32} {k : Nat} (hk : x7 = nI k) (hk2 : k < 121) (h : wY_step_549 post x1 x2 x8 0 (nI cp) (nI lm) sta (nI np) opn (nI nt) yh yd (nI fr) (nI bo) col (nI oc) res (sm_n tk) (sm_n fi) (sm_n pm) (sm_n vs) (sm_n mk) (sm_k gl) yt yb ys yr (sm_n fp) (sm_n fa) (sm_n fh) lo st he (upd nu k x6) lf rg ou) : wY_step_240 post x1 x2 15 x4 x5 x6 x7 x8 (nI cp) (nI lm) sta (nI np) opn (nI nt) yh yd (nI fr) (nI bo) col (nI oc) res (sm_n tk) (sm_n fi) (sm_n pm) (sm_n vs) (sm_n mk) (sm_k gl) yt yb ys yr (sm_n fp) (sm_n fa) (sm_n fh) lo st he nu lf rg ou :=
  br_f (by decide) (br_f (by decide) (br_f (by decide) (br_f (by decide) (br_f (by decide) (br_f (by decide) (br_f (by decide) (br_f (by decide) (br_f (by decide) (br_f (by decide) (br_f (by decide) (br_f (by decide) (br_t (by decide) (And.intro (by rw [hk]; exact vp_in_nI hk2 (by decide)) (nm_r (e' := upd nu k x6) (by rw [hk, nI_clamp (by omega)]) (br_f (by decide) (br_f (by decide) (br_f (by decide) (h))))))))))))))))))
theorem sm_yc16 {post : SY → Prop} {x1 x2 x4 x5 x6 x7 x8 : Int32} {k : Nat} (hk : x7 = nI k) (hk2 : k < 121) (h : wY_step_549 post x1 x2 x8 0 (nI cp) (nI lm) sta (nI np) opn (nI nt) yh yd (nI fr) (nI bo) col (nI oc) res (sm_n tk) (sm_n fi) (sm_n pm) (sm_n vs) (sm_n mk) (sm_k gl) yt yb ys yr (sm_n fp) (sm_n fa) (sm_n fh) lo st he nu (upd lf k x6) rg ou) : wY_step_240 post x1 x2 16 x4 x5 x6 x7 x8 (nI cp) (nI lm) sta (nI np) opn (nI nt) yh yd (nI fr) (nI bo) col (nI oc) res (sm_n tk) (sm_n fi) (sm_n pm) (sm_n vs) (sm_n mk) (sm_k gl) yt yb ys yr (sm_n fp) (sm_n fa) (sm_n fh) lo st he nu lf rg ou :=
  br_f (by decide) (br_f (by decide) (br_f (by decide) (br_f (by decide) (br_f (by decide) (br_f (by decide) (br_f (by decide) (br_f (by decide) (br_f (by decide) (br_f (by decide) (br_f (by decide) (br_f (by decide) (br_f (by decide) (br_t (by decide) (And.intro (by rw [hk]; exact vp_in_nI hk2 (by decide)) (nm_r (e' := upd lf k x6) (by rw [hk, nI_clamp (by omega)]) (br_f (by decide) (br_f (by decide) (h))))))))))))))))))
theorem sm_yc17 {post : SY → Prop} {x1 x2 x4 x5 x6 x7 x8 : Int32} {k : Nat} (hk : x7 = nI k) (hk2 : k < 121) (h : wY_step_549 post x1 x2 x8 0 (nI cp) (nI lm) sta (nI np) opn (nI nt) yh yd (nI fr) (nI bo) col (nI oc) res (sm_n tk) (sm_n fi) (sm_n pm) (sm_n vs) (sm_n mk) (sm_k gl) yt yb ys yr (sm_n fp) (sm_n fa) (sm_n fh) lo st he nu lf (upd rg k x6) ou) : wY_step_240 post x1 x2 17 x4 x5 x6 x7 x8 (nI cp) (nI lm) sta (nI np) opn (nI nt) yh yd (nI fr) (nI bo) col (nI oc) res (sm_n tk) (sm_n fi) (sm_n pm) (sm_n vs) (sm_n mk) (sm_k gl) yt yb ys yr (sm_n fp) (sm_n fa) (sm_n fh) lo st he nu lf rg ou :=
  br_f (by decide) (br_f (by decide) (br_f (by decide) (br_f (by decide) (br_f (by decide) (br_f (by decide) (br_f (by decide) (br_f (by decide) (br_f (by decide) (br_f (by decide) (br_f (by decide) (br_f (by decide) (br_f (by decide) (br_f (by decide) (br_t (by decide) (And.intro (by rw [hk]; exact vp_in_nI hk2 (by decide)) (nm_r (e' := upd rg k x6) (by rw [hk, nI_clamp (by omega)]) (br_f (by decide) (h))))))))))))))))))
theorem sm_yc18 {post : SY → Prop} {x1 x2 x4 x5 x6 x7 x8 : Int32} (hk2 : oc < 32) (h : wY_step_549 post x1 x2 x8 0 (nI cp) (nI lm) sta (nI np) opn (nI nt) yh yd (nI fr) (nI bo) col (nI (oc + 1)) res (sm_n tk) (sm_n fi) (sm_n pm) (sm_n vs) (sm_n mk) (sm_k gl) yt yb ys yr (sm_n fp) (sm_n fa) (sm_n fh) lo st he nu lf rg (upd ou oc x6)) : wY_step_240 post x1 x2 18 x4 x5 x6 x7 x8 (nI cp) (nI lm) sta (nI np) opn (nI nt) yh yd (nI fr) (nI bo) col (nI oc) res (sm_n tk) (sm_n fi) (sm_n pm) (sm_n vs) (sm_n mk) (sm_k gl) yt yb ys yr (sm_n fp) (sm_n fa) (sm_n fh) lo st he nu lf rg ou :=
  br_f (by decide) (br_f (by decide) (br_f (by decide) (br_f (by decide) (br_f (by decide) (br_f (by decide) (br_f (by decide) (br_f (by decide) (br_f (by decide) (br_f (by decide) (br_f (by decide) (br_f (by decide) (br_f (by decide) (br_f (by decide) (br_f (by decide) (br_t (by decide) (And.intro (vp_in_nI hk2 (by decide)) (nm_r (e' := upd ou oc x6) (by rw [nI_clamp (by omega)]) (nm_r (nI_1 oc) (h)))))))))))))))))))
theorem sm_yc19 {post : SY → Prop} {x1 x2 x4 x5 x6 x7 x8 : Int32} (h : wY_step_549 post x1 x2 x8 0 (nI cp) (nI lm) sta (nI np) opn (nI nt) yh yd (nI fr) (nI bo) col (nI oc) res (sm_n tk) (sm_n fi) (sm_n pm) (sm_n vs) (sm_n mk) (sm_k gl) yt yb ys yr (sm_n fp) (sm_n fa) (sm_n fh) lo st he nu lf rg ou) : wY_step_240 post x1 x2 19 x4 x5 x6 x7 x8 (nI cp) (nI lm) sta (nI np) opn (nI nt) yh yd (nI fr) (nI bo) col (nI oc) res (sm_n tk) (sm_n fi) (sm_n pm) (sm_n vs) (sm_n mk) (sm_k gl) yt yb ys yr (sm_n fp) (sm_n fa) (sm_n fh) lo st he nu lf rg ou :=
  br_f (by decide) (br_f (by decide) (br_f (by decide) (br_f (by decide) (br_f (by decide) (br_f (by decide) (br_f (by decide) (br_f (by decide) (br_f (by decide) (br_f (by decide) (br_f (by decide) (br_f (by decide) (br_f (by decide) (br_f (by decide) (br_f (by decide) (br_f (by decide) (h))))))))))))))))
theorem sm_yc20 {post : SY → Prop} {x1 x2 x4 x5 x6 x7 x8 : Int32} (h : wY_step_549 post x1 x2 x8 0 (nI cp) (nI lm) sta (nI np) opn (nI nt) yh yd (nI fr) (nI bo) col (nI oc) res (sm_n tk) (sm_n fi) (sm_n pm) (sm_n vs) (sm_n mk) (sm_k gl) yt yb ys yr (sm_n fp) (sm_n fa) (sm_n fh) lo st he nu lf rg ou) : wY_step_240 post x1 x2 20 x4 x5 x6 x7 x8 (nI cp) (nI lm) sta (nI np) opn (nI nt) yh yd (nI fr) (nI bo) col (nI oc) res (sm_n tk) (sm_n fi) (sm_n pm) (sm_n vs) (sm_n mk) (sm_k gl) yt yb ys yr (sm_n fp) (sm_n fa) (sm_n fh) lo st he nu lf rg ou :=
  br_f (by decide) (br_f (by decide) (br_f (by decide) (br_f (by decide) (br_f (by decide) (br_f (by decide) (br_f (by decide) (br_f (by decide) (br_f (by decide) (br_f (by decide) (br_f (by decide) (br_f (by decide) (br_f (by decide) (br_f (by decide) (br_f (by decide) (br_f (by decide) (h))))))))))))))))
theorem sm_yc21 {post : SY → Prop} {x1 x2 x4 x5 x6 x7 x8 : Int32} (h : wY_step_549 post x1 x2 x8 0 (nI cp) (nI lm) sta (nI np) opn (nI nt) yh yd (nI fr) (nI bo) col (nI oc) res (sm_n tk) (sm_n fi) (sm_n pm) (sm_n vs) (sm_n mk) (sm_k gl) yt yb ys yr (sm_n fp) (sm_n fa) (sm_n fh) lo st he nu lf rg ou) : wY_step_240 post x1 x2 21 x4 x5 x6 x7 x8 (nI cp) (nI lm) sta (nI np) opn (nI nt) yh yd (nI fr) (nI bo) col (nI oc) res (sm_n tk) (sm_n fi) (sm_n pm) (sm_n vs) (sm_n mk) (sm_k gl) yt yb ys yr (sm_n fp) (sm_n fa) (sm_n fh) lo st he nu lf rg ou :=
  br_f (by decide) (br_f (by decide) (br_f (by decide) (br_f (by decide) (br_f (by decide) (br_f (by decide) (br_f (by decide) (br_f (by decide) (br_f (by decide) (br_f (by decide) (br_f (by decide) (br_f (by decide) (br_f (by decide) (br_f (by decide) (br_f (by decide) (br_f (by decide) (h))))))))))))))))
theorem sm_yc22 {post : SY → Prop} {x1 x2 x4 x5 x6 x7 x8 : Int32} (h : wY_step_549 post x1 x2 x8 0 (nI cp) (nI lm) sta (nI np) opn (nI nt) yh yd (nI fr) (nI bo) col (nI oc) res (sm_n tk) (sm_n fi) (sm_n pm) (sm_n vs) (sm_n mk) (sm_k gl) yt yb ys yr (sm_n fp) (sm_n fa) (sm_n fh) lo st he nu lf rg ou) : wY_step_240 post x1 x2 22 x4 x5 x6 x7 x8 (nI cp) (nI lm) sta (nI np) opn (nI nt) yh yd (nI fr) (nI bo) col (nI oc) res (sm_n tk) (sm_n fi) (sm_n pm) (sm_n vs) (sm_n mk) (sm_k gl) yt yb ys yr (sm_n fp) (sm_n fa) (sm_n fh) lo st he nu lf rg ou :=
  br_f (by decide) (br_f (by decide) (br_f (by decide) (br_f (by decide) (br_f (by decide) (br_f (by decide) (br_f (by decide) (br_f (by decide) (br_f (by decide) (br_f (by decide) (br_f (by decide) (br_f (by decide) (br_f (by decide) (br_f (by decide) (br_f (by decide) (br_f (by decide) (h))))))))))))))))
theorem sm_yc23 {post : SY → Prop} {x1 x2 x4 x5 x6 x7 x8 : Int32} (h : wY_step_549 post x1 x2 x8 0 (nI cp) (nI lm) sta (nI np) opn (nI nt) yh yd (nI fr) (nI bo) col (nI oc) res (sm_n tk) (sm_n fi) (sm_n pm) (sm_n vs) (sm_n mk) (sm_k gl) yt yb ys yr (sm_n fp) (sm_n fa) (sm_n fh) lo st he nu lf rg ou) : wY_step_240 post x1 x2 23 x4 x5 x6 x7 x8 (nI cp) (nI lm) sta (nI np) opn (nI nt) yh yd (nI fr) (nI bo) col (nI oc) res (sm_n tk) (sm_n fi) (sm_n pm) (sm_n vs) (sm_n mk) (sm_k gl) yt yb ys yr (sm_n fp) (sm_n fa) (sm_n fh) lo st he nu lf rg ou :=
  br_f (by decide) (br_f (by decide) (br_f (by decide) (br_f (by decide) (br_f (by decide) (br_f (by decide) (br_f (by decide) (br_f (by decide) (br_f (by decide) (br_f (by decide) (br_f (by decide) (br_f (by decide) (br_f (by decide) (br_f (by decide) (br_f (by decide) (br_f (by decide) (h))))))))))))))))
theorem sm_yc24 {post : SY → Prop} {x1 x2 x4 x5 x6 x7 x8 : Int32} (h : wY_step_549 post x1 x2 x8 0 (nI cp) (nI lm) sta (nI np) opn (nI nt) yh yd (nI fr) (nI bo) col (nI oc) res (sm_n tk) (sm_n fi) (sm_n pm) (sm_n vs) (sm_n mk) (sm_k gl) yt yb ys yr (sm_n fp) (sm_n fa) (sm_n fh) lo st he nu lf rg ou) : wY_step_240 post x1 x2 24 x4 x5 x6 x7 x8 (nI cp) (nI lm) sta (nI np) opn (nI nt) yh yd (nI fr) (nI bo) col (nI oc) res (sm_n tk) (sm_n fi) (sm_n pm) (sm_n vs) (sm_n mk) (sm_k gl) yt yb ys yr (sm_n fp) (sm_n fa) (sm_n fh) lo st he nu lf rg ou :=
  br_f (by decide) (br_f (by decide) (br_f (by decide) (br_f (by decide) (br_f (by decide) (br_f (by decide) (br_f (by decide) (br_f (by decide) (br_f (by decide) (br_f (by decide) (br_f (by decide) (br_f (by decide) (br_f (by decide) (br_f (by decide) (br_f (by decide) (br_f (by decide) (h))))))))))))))))
theorem sm_yc9 {post : SY → Prop} {x1 x2 x4 x6 x7 x8 : Int32} {k : Nat} (hk : k < 67) (hk3 : 3 ≤ k) (hb : bo < 120) (h : wY_step_549 post x1 x2 x8 (nI (bo + 1)) (nI cp) (nI lm) sta (nI np) opn (nI nt) yh yd (nI fr) (nI (bo + 1)) col (nI oc) res (sm_n tk) (sm_n fi) (sm_n pm) (sm_n vs) (sm_n mk) (sm_k gl) yt yb ys yr (sm_n fp) (sm_n fa) (sm_n fh) lo st (upd he (bo + 1) 1) (upd nu (bo + 1) (st (k - 3))) (upd lf (bo + 1) x7) (upd rg (bo + 1) x6) ou) : wY_step_240 post x1 x2 9 x4 (nI k) x6 x7 x8 (nI cp) (nI lm) sta (nI np) opn (nI nt) yh yd (nI fr) (nI bo) col (nI oc) res (sm_n tk) (sm_n fi) (sm_n pm) (sm_n vs) (sm_n mk) (sm_k gl) yt yb ys yr (sm_n fp) (sm_n fa) (sm_n fh) lo st he nu lf rg ou := by
  have vb : vp_in (nI (bo + 1)) 121 := vp_in_nI (by omega) (by decide)
  have cb1 : (nI (bo + 1)).toNatClampNeg = bo + 1 := nI_clamp (by omega)
  have e3 : nI k - 3 = nI (k - 3) := sm_sb3 hk3
  have c3 : (nI (k - 3)).toNatClampNeg = k - 3 := nI_clamp (by omega)
  exact br_f (by decide) (br_f (by decide) (br_f (by decide) (br_f (by decide) (br_f (by decide) (br_f (by decide) (br_f (by decide) (br_t (by decide) (nm_r (nI_1 bo) (And.intro vb (nm_r (e' := upd he (bo + 1) 1) (by rw [cb1, sm_b1]) (And.intro (by rw [e3]; exact vp_in_nI (by omega) (by decide)) (And.intro vb (nm_r (e' := upd nu (bo + 1) (st (k - 3))) (by rw [e3, c3, cb1]) (And.intro vb (nm_r (e' := upd lf (bo + 1) x7) (by rw [cb1]) (And.intro vb (nm_r (e' := upd rg (bo + 1) x6) (by rw [cb1]) (br_f (by decide) (br_f (by decide) (br_f (by decide) (br_f (by decide) (br_f (by decide) (br_f (by decide) (br_f (by decide) (br_f (by decide) (h))))))))))))))))))))))))))
end
end
section
/-! the component's step, op by op (printed by mk29.py) -/
section
variable {xle xpe sta opn xch xck xbc xcb xcc col res yh yd : Int32} {cp lm np nt fr sb us bo oc : Nat} {pm vs mk fi tk xo xj ow xh xk xl fp fa fh cb : Nat → Nat} {gl : Nat → Bool} {xbk xbp xbh sl cn cl cr fw ou yt yb ys yr lo st he nu lf rg : Nat → Int32} {hh kk dp : Nat → Nat} {pt hd : Nat → Nat → Nat}
variable {f h : Nat} {post : SX → Prop}
theorem sm_xs1 (h8 : f < 8) (hi : fa f < nt) (n160 : nt ≤ 160) (hxh : xh (fa f) = h) (hh8 : h ≤ 8) (hx : xo (fa f) = 1) (hh7 : h < 8) (hp : post (xle, xpe, nI cp, nI lm, sta, nI np, opn, nI nt, xch, xck, xbc, nI (f + 1), nI sb, nI us, xcb, xcc, col, nI bo, nI oc, res, sm_n pm, sm_n vs, sm_n mk, sm_k gl, sm_n fi, sm_n tk, sm_n xo, sm_n (sm_ar tk), sm_n xj, sm_n ow, sm_n xh, sm_n xk, sm_n xl, xbk, xbp, xbh, sm_n fp, sm_n (sm_u fa f (fa f + 1)), upd sl (f * 16 + 8 + h) (nI (tk (fa f) / 100)), cn, cl, cr, sm_n cb, fw, ou)) : wpX_step post (xle, xpe, nI cp, nI lm, sta, nI np, opn, nI nt, xch, xck, xbc, nI (f + 1), nI sb, nI us, xcb, xcc, col, nI bo, nI oc, res, sm_n pm, sm_n vs, sm_n mk, sm_k gl, sm_n fi, sm_n tk, sm_n xo, sm_n (sm_ar tk), sm_n xj, sm_n ow, sm_n xh, sm_n xk, sm_n xl, xbk, xbp, xbh, sm_n fp, sm_n fa, sl, cn, cl, cr, sm_n cb, fw, ou) := by
  have v8 : vp_in (nI f) 8 := vp_in_nI h8 (by decide)
  have c8 : (nI f).toNatClampNeg = f := nI_clamp (by omega)
  have vi : vp_in (nI (fa f)) 160 := vp_in_nI (by omega) (by decide)
  have ci : (nI (fa f)).toNatClampNeg = fa f := nI_clamp (by omega)
  have eo : sm_n xo (nI (fa f)).toNatClampNeg = nI 1 := by rw [ci, sm_nap, hx]
  have eA : nI f * 16 + sm_n (sm_ar tk) (nI (fa f)).toNatClampNeg = nI (f * 16 + tk (fa f) / 100) := by rw [ci, sm_nap, sm_arap, sm_mu16, nI_add]
  have vT : h < 8 → vp_in (nI (f * 16 + 8 + h)) 128 := fun z => vp_in_nI (by omega) (by decide)
  have cT : (nI (f * 16 + 8 + h)).toNatClampNeg = f * 16 + 8 + h := nI_clamp (by omega)
  exact nm_r (e' := nI f) (nI_pred f) (br_t (nI_pos' (by omega)) (And.intro v8 (nm_r (e' := nI (fa f)) (by rw [c8, sm_nap]) (And.intro vi (nm_r (e' := nI 1) eo (And.intro vi (nm_r (e' := nI (f * 16 + 8 + h)) (by rw [ci, sm_nap, hxh, sm_mu16, sm_ad8, nI_add]) (br_f (by decide) (And.intro vi (nm_r (e' := nI 1) eo (br_t (by decide) (And.intro vi (And.intro (vT hh7) (nm_r (e' := upd sl (f * 16 + 8 + h) (nI (tk (fa f) / 100))) (by rw [ci, sm_nap, sm_arap, cT]) (And.intro v8 (nm_r (e' := sm_n (sm_u fa f (fa f + 1))) (by rw [c8, nI_1, sm_nu]) hp))))))) )))))))))
theorem sm_xs2 (h8 : f < 8) (hi : fa f < nt) (n160 : nt ≤ 160) (hxh : xh (fa f) = h) (hh8 : h ≤ 8) (hx : xo (fa f) = 2) (hh7 : h < 8) (hp : post (xle, xpe, nI cp, nI lm, sta, nI np, opn, nI nt, xch, xck, xbc, nI (f + 1), nI sb, nI us, xcb, xcc, col, nI bo, nI oc, res, sm_n pm, sm_n vs, sm_n mk, sm_k gl, sm_n fi, sm_n tk, sm_n xo, sm_n (sm_ar tk), sm_n xj, sm_n ow, sm_n xh, sm_n xk, sm_n xl, xbk, xbp, xbh, sm_n fp, sm_n (sm_u fa f (fa f + 1)), upd sl (f * 16 + 8 + h) 0, cn, cl, cr, sm_n cb, fw, ou)) : wpX_step post (xle, xpe, nI cp, nI lm, sta, nI np, opn, nI nt, xch, xck, xbc, nI (f + 1), nI sb, nI us, xcb, xcc, col, nI bo, nI oc, res, sm_n pm, sm_n vs, sm_n mk, sm_k gl, sm_n fi, sm_n tk, sm_n xo, sm_n (sm_ar tk), sm_n xj, sm_n ow, sm_n xh, sm_n xk, sm_n xl, xbk, xbp, xbh, sm_n fp, sm_n fa, sl, cn, cl, cr, sm_n cb, fw, ou) := by
  have v8 : vp_in (nI f) 8 := vp_in_nI h8 (by decide)
  have c8 : (nI f).toNatClampNeg = f := nI_clamp (by omega)
  have vi : vp_in (nI (fa f)) 160 := vp_in_nI (by omega) (by decide)
  have ci : (nI (fa f)).toNatClampNeg = fa f := nI_clamp (by omega)
  have eo : sm_n xo (nI (fa f)).toNatClampNeg = nI 2 := by rw [ci, sm_nap, hx]
  have eA : nI f * 16 + sm_n (sm_ar tk) (nI (fa f)).toNatClampNeg = nI (f * 16 + tk (fa f) / 100) := by rw [ci, sm_nap, sm_arap, sm_mu16, nI_add]
  have vT : h < 8 → vp_in (nI (f * 16 + 8 + h)) 128 := fun z => vp_in_nI (by omega) (by decide)
  have cT : (nI (f * 16 + 8 + h)).toNatClampNeg = f * 16 + 8 + h := nI_clamp (by omega)
  exact nm_r (e' := nI f) (nI_pred f) (br_t (nI_pos' (by omega)) (And.intro v8 (nm_r (e' := nI (fa f)) (by rw [c8, sm_nap]) (And.intro vi (nm_r (e' := nI 2) eo (And.intro vi (nm_r (e' := nI (f * 16 + 8 + h)) (by rw [ci, sm_nap, hxh, sm_mu16, sm_ad8, nI_add]) (br_f (by decide) (And.intro vi (nm_r (e' := nI 2) eo (br_f (by decide) (br_t (by decide) (And.intro (vT hh7) (nm_r (e' := upd sl (f * 16 + 8 + h) 0) (by rw [cT]) (And.intro v8 (nm_r (e' := sm_n (sm_u fa f (fa f + 1))) (by rw [c8, nI_1, sm_nu]) hp))))))) )))))))))
theorem sm_xs3 (h8 : f < 8) (hi : fa f < nt) (n160 : nt ≤ 160) (hxh : xh (fa f) = h) (hh8 : h ≤ 8) (hx : xo (fa f) = 3) (hh7 : h < 8) (ha : tk (fa f) / 100 < 8) (hp : post (xle, xpe, nI cp, nI lm, sta, nI np, opn, nI nt, xch, xck, xbc, nI (f + 1), nI sb, nI us, xcb, xcc, col, nI bo, nI oc, res, sm_n pm, sm_n vs, sm_n mk, sm_k gl, sm_n fi, sm_n tk, sm_n xo, sm_n (sm_ar tk), sm_n xj, sm_n ow, sm_n xh, sm_n xk, sm_n xl, xbk, xbp, xbh, sm_n fp, sm_n (sm_u fa f (fa f + 1)), upd sl (f * 16 + 8 + h) (sl (f * 16 + tk (fa f) / 100)), cn, cl, cr, sm_n cb, fw, ou)) : wpX_step post (xle, xpe, nI cp, nI lm, sta, nI np, opn, nI nt, xch, xck, xbc, nI (f + 1), nI sb, nI us, xcb, xcc, col, nI bo, nI oc, res, sm_n pm, sm_n vs, sm_n mk, sm_k gl, sm_n fi, sm_n tk, sm_n xo, sm_n (sm_ar tk), sm_n xj, sm_n ow, sm_n xh, sm_n xk, sm_n xl, xbk, xbp, xbh, sm_n fp, sm_n fa, sl, cn, cl, cr, sm_n cb, fw, ou) := by
  have v8 : vp_in (nI f) 8 := vp_in_nI h8 (by decide)
  have c8 : (nI f).toNatClampNeg = f := nI_clamp (by omega)
  have vi : vp_in (nI (fa f)) 160 := vp_in_nI (by omega) (by decide)
  have ci : (nI (fa f)).toNatClampNeg = fa f := nI_clamp (by omega)
  have eo : sm_n xo (nI (fa f)).toNatClampNeg = nI 3 := by rw [ci, sm_nap, hx]
  have eA : nI f * 16 + sm_n (sm_ar tk) (nI (fa f)).toNatClampNeg = nI (f * 16 + tk (fa f) / 100) := by rw [ci, sm_nap, sm_arap, sm_mu16, nI_add]
  have vT : h < 8 → vp_in (nI (f * 16 + 8 + h)) 128 := fun z => vp_in_nI (by omega) (by decide)
  have cT : (nI (f * 16 + 8 + h)).toNatClampNeg = f * 16 + 8 + h := nI_clamp (by omega)
  exact nm_r (e' := nI f) (nI_pred f) (br_t (nI_pos' (by omega)) (And.intro v8 (nm_r (e' := nI (fa f)) (by rw [c8, sm_nap]) (And.intro vi (nm_r (e' := nI 3) eo (And.intro vi (nm_r (e' := nI (f * 16 + 8 + h)) (by rw [ci, sm_nap, hxh, sm_mu16, sm_ad8, nI_add]) (br_f (by decide) (And.intro vi (nm_r (e' := nI 3) eo (br_f (by decide) (br_f (by decide) (And.intro vi (And.intro (by rw [eA]; exact vp_in_nI (by omega) (by decide)) (And.intro (vT hh7) (nm_r (e' := upd sl (f * 16 + 8 + h) (sl (f * 16 + tk (fa f) / 100))) (by rw [eA, cT, nI_clamp (show f * 16 + tk (fa f) / 100 < 2 ^ 31 by omega)]) (And.intro v8 (nm_r (e' := sm_n (sm_u fa f (fa f + 1))) (by rw [c8, nI_1, sm_nu]) hp))))))))) )))))))))
theorem sm_xs4 (h8 : f < 8) (hi : fa f < nt) (n160 : nt ≤ 160) (hxh : xh (fa f) = h) (hh8 : h ≤ 8) (hx : xo (fa f) = 4) (hh2 : 2 ≤ h) (hp : post (xle, xpe, nI cp, nI lm, sta, nI np, opn, nI nt, xch, xck, xbc, nI (f + 1), nI sb, nI us, xcb, xcc, col, nI bo, nI oc, res, sm_n pm, sm_n vs, sm_n mk, sm_k gl, sm_n fi, sm_n tk, sm_n xo, sm_n (sm_ar tk), sm_n xj, sm_n ow, sm_n xh, sm_n xk, sm_n xl, xbk, xbp, xbh, sm_n fp, sm_n (sm_u fa f (fa f + 1)), upd sl (f * 16 + 8 + (h - 2)) (sl (f * 16 + 8 + (h - 2)) + sl (f * 16 + 8 + (h - 1))), cn, cl, cr, sm_n cb, fw, ou)) : wpX_step post (xle, xpe, nI cp, nI lm, sta, nI np, opn, nI nt, xch, xck, xbc, nI (f + 1), nI sb, nI us, xcb, xcc, col, nI bo, nI oc, res, sm_n pm, sm_n vs, sm_n mk, sm_k gl, sm_n fi, sm_n tk, sm_n xo, sm_n (sm_ar tk), sm_n xj, sm_n ow, sm_n xh, sm_n xk, sm_n xl, xbk, xbp, xbh, sm_n fp, sm_n fa, sl, cn, cl, cr, sm_n cb, fw, ou) := by
  have v8 : vp_in (nI f) 8 := vp_in_nI h8 (by decide)
  have c8 : (nI f).toNatClampNeg = f := nI_clamp (by omega)
  have vi : vp_in (nI (fa f)) 160 := vp_in_nI (by omega) (by decide)
  have ci : (nI (fa f)).toNatClampNeg = fa f := nI_clamp (by omega)
  have eo : sm_n xo (nI (fa f)).toNatClampNeg = nI 4 := by rw [ci, sm_nap, hx]
  have eA : nI f * 16 + sm_n (sm_ar tk) (nI (fa f)).toNatClampNeg = nI (f * 16 + tk (fa f) / 100) := by rw [ci, sm_nap, sm_arap, sm_mu16, nI_add]
  have eT1 : nI (f * 16 + 8 + h) - 1 = nI (f * 16 + 8 + (h - 1)) := by rw [sm_sb1 (by omega)]; congr 1; omega
  have vT1 : vp_in (nI (f * 16 + 8 + h) - 1) 128 := by rw [eT1]; exact vp_in_nI (by omega) (by decide)
  have cT1 : (nI (f * 16 + 8 + h) - 1).toNatClampNeg = f * 16 + 8 + (h - 1) := by rw [eT1]; exact nI_clamp (by omega)
  have eT2 : nI (f * 16 + 8 + h) - 2 = nI (f * 16 + 8 + (h - 2)) := by rw [sm_sb2 (by omega)]; congr 1; omega
  have vT2 : vp_in (nI (f * 16 + 8 + h) - 2) 128 := by rw [eT2]; exact vp_in_nI (by omega) (by decide)
  have cT2 : (nI (f * 16 + 8 + h) - 2).toNatClampNeg = f * 16 + 8 + (h - 2) := by rw [eT2]; exact nI_clamp (by omega)
  exact nm_r (e' := nI f) (nI_pred f) (br_t (nI_pos' (by omega)) (And.intro v8 (nm_r (e' := nI (fa f)) (by rw [c8, sm_nap]) (And.intro vi (nm_r (e' := nI 4) eo (And.intro vi (nm_r (e' := nI (f * 16 + 8 + h)) (by rw [ci, sm_nap, hxh, sm_mu16, sm_ad8, nI_add]) (br_t (by decide) (br_f (by decide) (And.intro vT2 (nm_r (e' := (sl (f * 16 + 8 + (h - 2)))) (by rw [cT2]) (And.intro vT1 (nm_r (e' := (sl (f * 16 + 8 + (h - 1)))) (by rw [cT1]) (And.intro vi (nm_r (e' := nI 4) eo (br_f (by decide) (br_f (by decide) (br_t (by decide) (nm_e (And.intro vT2 (nm_r (e' := upd sl (f * 16 + 8 + (h - 2)) (sl (f * 16 + 8 + (h - 2)) + sl (f * 16 + 8 + (h - 1)))) (by rw [cT2]) (And.intro v8 (nm_r (e' := sm_n (sm_u fa f (fa f + 1))) (by rw [c8, nI_1, sm_nu]) hp)))))))))))))))))))))))
theorem sm_xs5 (h8 : f < 8) (hi : fa f < nt) (n160 : nt ≤ 160) (hxh : xh (fa f) = h) (hh8 : h ≤ 8) (hx : xo (fa f) = 5) (hh2 : 2 ≤ h) (hp : post (xle, xpe, nI cp, nI lm, sta, nI np, opn, nI nt, xch, xck, xbc, nI (f + 1), nI sb, nI us, xcb, xcc, col, nI bo, nI oc, res, sm_n pm, sm_n vs, sm_n mk, sm_k gl, sm_n fi, sm_n tk, sm_n xo, sm_n (sm_ar tk), sm_n xj, sm_n ow, sm_n xh, sm_n xk, sm_n xl, xbk, xbp, xbh, sm_n fp, sm_n (sm_u fa f (fa f + 1)), upd sl (f * 16 + 8 + (h - 2)) (sl (f * 16 + 8 + (h - 2)) - sl (f * 16 + 8 + (h - 1))), cn, cl, cr, sm_n cb, fw, ou)) : wpX_step post (xle, xpe, nI cp, nI lm, sta, nI np, opn, nI nt, xch, xck, xbc, nI (f + 1), nI sb, nI us, xcb, xcc, col, nI bo, nI oc, res, sm_n pm, sm_n vs, sm_n mk, sm_k gl, sm_n fi, sm_n tk, sm_n xo, sm_n (sm_ar tk), sm_n xj, sm_n ow, sm_n xh, sm_n xk, sm_n xl, xbk, xbp, xbh, sm_n fp, sm_n fa, sl, cn, cl, cr, sm_n cb, fw, ou) := by
  have v8 : vp_in (nI f) 8 := vp_in_nI h8 (by decide)
  have c8 : (nI f).toNatClampNeg = f := nI_clamp (by omega)
  have vi : vp_in (nI (fa f)) 160 := vp_in_nI (by omega) (by decide)
  have ci : (nI (fa f)).toNatClampNeg = fa f := nI_clamp (by omega)
  have eo : sm_n xo (nI (fa f)).toNatClampNeg = nI 5 := by rw [ci, sm_nap, hx]
  have eA : nI f * 16 + sm_n (sm_ar tk) (nI (fa f)).toNatClampNeg = nI (f * 16 + tk (fa f) / 100) := by rw [ci, sm_nap, sm_arap, sm_mu16, nI_add]
  have eT1 : nI (f * 16 + 8 + h) - 1 = nI (f * 16 + 8 + (h - 1)) := by rw [sm_sb1 (by omega)]; congr 1; omega
  have vT1 : vp_in (nI (f * 16 + 8 + h) - 1) 128 := by rw [eT1]; exact vp_in_nI (by omega) (by decide)
  have cT1 : (nI (f * 16 + 8 + h) - 1).toNatClampNeg = f * 16 + 8 + (h - 1) := by rw [eT1]; exact nI_clamp (by omega)
  have eT2 : nI (f * 16 + 8 + h) - 2 = nI (f * 16 + 8 + (h - 2)) := by rw [sm_sb2 (by omega)]; congr 1; omega
  have vT2 : vp_in (nI (f * 16 + 8 + h) - 2) 128 := by rw [eT2]; exact vp_in_nI (by omega) (by decide)
  have cT2 : (nI (f * 16 + 8 + h) - 2).toNatClampNeg = f * 16 + 8 + (h - 2) := by rw [eT2]; exact nI_clamp (by omega)
  exact nm_r (e' := nI f) (nI_pred f) (br_t (nI_pos' (by omega)) (And.intro v8 (nm_r (e' := nI (fa f)) (by rw [c8, sm_nap]) (And.intro vi (nm_r (e' := nI 5) eo (And.intro vi (nm_r (e' := nI (f * 16 + 8 + h)) (by rw [ci, sm_nap, hxh, sm_mu16, sm_ad8, nI_add]) (br_t (by decide) (br_f (by decide) (And.intro vT2 (nm_r (e' := (sl (f * 16 + 8 + (h - 2)))) (by rw [cT2]) (And.intro vT1 (nm_r (e' := (sl (f * 16 + 8 + (h - 1)))) (by rw [cT1]) (And.intro vi (nm_r (e' := nI 5) eo (br_f (by decide) (br_f (by decide) (br_f (by decide) (br_t (by decide) (nm_e (And.intro vT2 (nm_r (e' := upd sl (f * 16 + 8 + (h - 2)) (sl (f * 16 + 8 + (h - 2)) - sl (f * 16 + 8 + (h - 1)))) (by rw [cT2]) (And.intro v8 (nm_r (e' := sm_n (sm_u fa f (fa f + 1))) (by rw [c8, nI_1, sm_nu]) hp))))))))))))))))))))))))
theorem sm_xs6 (h8 : f < 8) (hi : fa f < nt) (n160 : nt ≤ 160) (hxh : xh (fa f) = h) (hh8 : h ≤ 8) (hx : xo (fa f) = 6) (hh2 : 2 ≤ h) (hp : post (xle, xpe, nI cp, nI lm, sta, nI np, opn, nI nt, xch, xck, xbc, nI (f + 1), nI sb, nI us, xcb, xcc, col, nI bo, nI oc, res, sm_n pm, sm_n vs, sm_n mk, sm_k gl, sm_n fi, sm_n tk, sm_n xo, sm_n (sm_ar tk), sm_n xj, sm_n ow, sm_n xh, sm_n xk, sm_n xl, xbk, xbp, xbh, sm_n fp, sm_n (sm_u fa f (fa f + 1)), upd sl (f * 16 + 8 + (h - 2)) (sl (f * 16 + 8 + (h - 2)) * sl (f * 16 + 8 + (h - 1))), cn, cl, cr, sm_n cb, fw, ou)) : wpX_step post (xle, xpe, nI cp, nI lm, sta, nI np, opn, nI nt, xch, xck, xbc, nI (f + 1), nI sb, nI us, xcb, xcc, col, nI bo, nI oc, res, sm_n pm, sm_n vs, sm_n mk, sm_k gl, sm_n fi, sm_n tk, sm_n xo, sm_n (sm_ar tk), sm_n xj, sm_n ow, sm_n xh, sm_n xk, sm_n xl, xbk, xbp, xbh, sm_n fp, sm_n fa, sl, cn, cl, cr, sm_n cb, fw, ou) := by
  have v8 : vp_in (nI f) 8 := vp_in_nI h8 (by decide)
  have c8 : (nI f).toNatClampNeg = f := nI_clamp (by omega)
  have vi : vp_in (nI (fa f)) 160 := vp_in_nI (by omega) (by decide)
  have ci : (nI (fa f)).toNatClampNeg = fa f := nI_clamp (by omega)
  have eo : sm_n xo (nI (fa f)).toNatClampNeg = nI 6 := by rw [ci, sm_nap, hx]
  have eA : nI f * 16 + sm_n (sm_ar tk) (nI (fa f)).toNatClampNeg = nI (f * 16 + tk (fa f) / 100) := by rw [ci, sm_nap, sm_arap, sm_mu16, nI_add]
  have eT1 : nI (f * 16 + 8 + h) - 1 = nI (f * 16 + 8 + (h - 1)) := by rw [sm_sb1 (by omega)]; congr 1; omega
  have vT1 : vp_in (nI (f * 16 + 8 + h) - 1) 128 := by rw [eT1]; exact vp_in_nI (by omega) (by decide)
  have cT1 : (nI (f * 16 + 8 + h) - 1).toNatClampNeg = f * 16 + 8 + (h - 1) := by rw [eT1]; exact nI_clamp (by omega)
  have eT2 : nI (f * 16 + 8 + h) - 2 = nI (f * 16 + 8 + (h - 2)) := by rw [sm_sb2 (by omega)]; congr 1; omega
  have vT2 : vp_in (nI (f * 16 + 8 + h) - 2) 128 := by rw [eT2]; exact vp_in_nI (by omega) (by decide)
  have cT2 : (nI (f * 16 + 8 + h) - 2).toNatClampNeg = f * 16 + 8 + (h - 2) := by rw [eT2]; exact nI_clamp (by omega)
  exact nm_r (e' := nI f) (nI_pred f) (br_t (nI_pos' (by omega)) (And.intro v8 (nm_r (e' := nI (fa f)) (by rw [c8, sm_nap]) (And.intro vi (nm_r (e' := nI 6) eo (And.intro vi (nm_r (e' := nI (f * 16 + 8 + h)) (by rw [ci, sm_nap, hxh, sm_mu16, sm_ad8, nI_add]) (br_t (by decide) (br_f (by decide) (And.intro vT2 (nm_r (e' := (sl (f * 16 + 8 + (h - 2)))) (by rw [cT2]) (And.intro vT1 (nm_r (e' := (sl (f * 16 + 8 + (h - 1)))) (by rw [cT1]) (And.intro vi (nm_r (e' := nI 6) eo (br_f (by decide) (br_f (by decide) (br_f (by decide) (br_f (by decide) (br_t (by decide) (nm_e (And.intro vT2 (nm_r (e' := upd sl (f * 16 + 8 + (h - 2)) (sl (f * 16 + 8 + (h - 2)) * sl (f * 16 + 8 + (h - 1)))) (by rw [cT2]) (And.intro v8 (nm_r (e' := sm_n (sm_u fa f (fa f + 1))) (by rw [c8, nI_1, sm_nu]) hp)))))))))))))))))))))))))
theorem sm_xs7 (h8 : f < 8) (hi : fa f < nt) (n160 : nt ≤ 160) (hxh : xh (fa f) = h) (hh8 : h ≤ 8) (hx : xo (fa f) = 7) (hh2 : 2 ≤ h) (hp0 : sl (f * 16 + 8 + (h - 1)) ≤ sl (f * 16 + 8 + (h - 2)) → post (xle, xpe, nI cp, nI lm, sta, nI np, opn, nI nt, xch, xck, xbc, nI (f + 1), nI sb, nI us, xcb, xcc, col, nI bo, nI oc, res, sm_n pm, sm_n vs, sm_n mk, sm_k gl, sm_n fi, sm_n tk, sm_n xo, sm_n (sm_ar tk), sm_n xj, sm_n ow, sm_n xh, sm_n xk, sm_n xl, xbk, xbp, xbh, sm_n fp, sm_n (sm_u fa f (fa f + 1)), upd sl (f * 16 + 8 + (h - 2)) (0), cn, cl, cr, sm_n cb, fw, ou)) (hp1 : ¬ sl (f * 16 + 8 + (h - 1)) ≤ sl (f * 16 + 8 + (h - 2)) → post (xle, xpe, nI cp, nI lm, sta, nI np, opn, nI nt, xch, xck, xbc, nI (f + 1), nI sb, nI us, xcb, xcc, col, nI bo, nI oc, res, sm_n pm, sm_n vs, sm_n mk, sm_k gl, sm_n fi, sm_n tk, sm_n xo, sm_n (sm_ar tk), sm_n xj, sm_n ow, sm_n xh, sm_n xk, sm_n xl, xbk, xbp, xbh, sm_n fp, sm_n (sm_u fa f (fa f + 1)), upd sl (f * 16 + 8 + (h - 2)) (1), cn, cl, cr, sm_n cb, fw, ou)) : wpX_step post (xle, xpe, nI cp, nI lm, sta, nI np, opn, nI nt, xch, xck, xbc, nI (f + 1), nI sb, nI us, xcb, xcc, col, nI bo, nI oc, res, sm_n pm, sm_n vs, sm_n mk, sm_k gl, sm_n fi, sm_n tk, sm_n xo, sm_n (sm_ar tk), sm_n xj, sm_n ow, sm_n xh, sm_n xk, sm_n xl, xbk, xbp, xbh, sm_n fp, sm_n fa, sl, cn, cl, cr, sm_n cb, fw, ou) := by
  have v8 : vp_in (nI f) 8 := vp_in_nI h8 (by decide)
  have c8 : (nI f).toNatClampNeg = f := nI_clamp (by omega)
  have vi : vp_in (nI (fa f)) 160 := vp_in_nI (by omega) (by decide)
  have ci : (nI (fa f)).toNatClampNeg = fa f := nI_clamp (by omega)
  have eo : sm_n xo (nI (fa f)).toNatClampNeg = nI 7 := by rw [ci, sm_nap, hx]
  have eA : nI f * 16 + sm_n (sm_ar tk) (nI (fa f)).toNatClampNeg = nI (f * 16 + tk (fa f) / 100) := by rw [ci, sm_nap, sm_arap, sm_mu16, nI_add]
  have eT1 : nI (f * 16 + 8 + h) - 1 = nI (f * 16 + 8 + (h - 1)) := by rw [sm_sb1 (by omega)]; congr 1; omega
  have vT1 : vp_in (nI (f * 16 + 8 + h) - 1) 128 := by rw [eT1]; exact vp_in_nI (by omega) (by decide)
  have cT1 : (nI (f * 16 + 8 + h) - 1).toNatClampNeg = f * 16 + 8 + (h - 1) := by rw [eT1]; exact nI_clamp (by omega)
  have eT2 : nI (f * 16 + 8 + h) - 2 = nI (f * 16 + 8 + (h - 2)) := by rw [sm_sb2 (by omega)]; congr 1; omega
  have vT2 : vp_in (nI (f * 16 + 8 + h) - 2) 128 := by rw [eT2]; exact vp_in_nI (by omega) (by decide)
  have cT2 : (nI (f * 16 + 8 + h) - 2).toNatClampNeg = f * 16 + 8 + (h - 2) := by rw [eT2]; exact nI_clamp (by omega)
  exact nm_r (e' := nI f) (nI_pred f) (br_t (nI_pos' (by omega)) (And.intro v8 (nm_r (e' := nI (fa f)) (by rw [c8, sm_nap]) (And.intro vi (nm_r (e' := nI 7) eo (And.intro vi (nm_r (e' := nI (f * 16 + 8 + h)) (by rw [ci, sm_nap, hxh, sm_mu16, sm_ad8, nI_add]) (br_t (by decide) (br_f (by decide) (And.intro vT2 (nm_r (e' := (sl (f * 16 + 8 + (h - 2)))) (by rw [cT2]) (And.intro vT1 (nm_r (e' := (sl (f * 16 + 8 + (h - 1)))) (by rw [cT1]) (And.intro vi (nm_r (e' := nI 7) eo (br_f (by decide) (br_f (by decide) (br_f (by decide) (br_f (by decide) (br_f (by decide) (br_t (by decide) (br_c (fun z => And.intro vT2 (nm_r (e' := upd sl (f * 16 + 8 + (h - 2)) 0) (by rw [cT2]) (And.intro v8 (nm_r (e' := sm_n (sm_u fa f (fa f + 1))) (by rw [c8, nI_1, sm_nu]) (hp0 z))))) (fun z => And.intro vT2 (nm_r (e' := upd sl (f * 16 + 8 + (h - 2)) 1) (by rw [cT2]) (And.intro v8 (nm_r (e' := sm_n (sm_u fa f (fa f + 1))) (by rw [c8, nI_1, sm_nu]) (hp1 z)))))))))))))))))))))))))))
theorem sm_xs8 (h8 : f < 8) (hi : fa f < nt) (n160 : nt ≤ 160) (hxh : xh (fa f) = h) (hh8 : h ≤ 8) (hx : xo (fa f) = 8) (hh2 : 2 ≤ h) (hp1 : sl (f * 16 + 8 + (h - 2)) = sl (f * 16 + 8 + (h - 1)) → post (xle, xpe, nI cp, nI lm, sta, nI np, opn, nI nt, xch, xck, xbc, nI (f + 1), nI sb, nI us, xcb, xcc, col, nI bo, nI oc, res, sm_n pm, sm_n vs, sm_n mk, sm_k gl, sm_n fi, sm_n tk, sm_n xo, sm_n (sm_ar tk), sm_n xj, sm_n ow, sm_n xh, sm_n xk, sm_n xl, xbk, xbp, xbh, sm_n fp, sm_n (sm_u fa f (fa f + 1)), upd sl (f * 16 + 8 + (h - 2)) (1), cn, cl, cr, sm_n cb, fw, ou)) (hp0 : ¬ sl (f * 16 + 8 + (h - 2)) = sl (f * 16 + 8 + (h - 1)) → post (xle, xpe, nI cp, nI lm, sta, nI np, opn, nI nt, xch, xck, xbc, nI (f + 1), nI sb, nI us, xcb, xcc, col, nI bo, nI oc, res, sm_n pm, sm_n vs, sm_n mk, sm_k gl, sm_n fi, sm_n tk, sm_n xo, sm_n (sm_ar tk), sm_n xj, sm_n ow, sm_n xh, sm_n xk, sm_n xl, xbk, xbp, xbh, sm_n fp, sm_n (sm_u fa f (fa f + 1)), upd sl (f * 16 + 8 + (h - 2)) (0), cn, cl, cr, sm_n cb, fw, ou)) : wpX_step post (xle, xpe, nI cp, nI lm, sta, nI np, opn, nI nt, xch, xck, xbc, nI (f + 1), nI sb, nI us, xcb, xcc, col, nI bo, nI oc, res, sm_n pm, sm_n vs, sm_n mk, sm_k gl, sm_n fi, sm_n tk, sm_n xo, sm_n (sm_ar tk), sm_n xj, sm_n ow, sm_n xh, sm_n xk, sm_n xl, xbk, xbp, xbh, sm_n fp, sm_n fa, sl, cn, cl, cr, sm_n cb, fw, ou) := by
  have v8 : vp_in (nI f) 8 := vp_in_nI h8 (by decide)
  have c8 : (nI f).toNatClampNeg = f := nI_clamp (by omega)
  have vi : vp_in (nI (fa f)) 160 := vp_in_nI (by omega) (by decide)
  have ci : (nI (fa f)).toNatClampNeg = fa f := nI_clamp (by omega)
  have eo : sm_n xo (nI (fa f)).toNatClampNeg = nI 8 := by rw [ci, sm_nap, hx]
  have eA : nI f * 16 + sm_n (sm_ar tk) (nI (fa f)).toNatClampNeg = nI (f * 16 + tk (fa f) / 100) := by rw [ci, sm_nap, sm_arap, sm_mu16, nI_add]
  have eT1 : nI (f * 16 + 8 + h) - 1 = nI (f * 16 + 8 + (h - 1)) := by rw [sm_sb1 (by omega)]; congr 1; omega
  have vT1 : vp_in (nI (f * 16 + 8 + h) - 1) 128 := by rw [eT1]; exact vp_in_nI (by omega) (by decide)
  have cT1 : (nI (f * 16 + 8 + h) - 1).toNatClampNeg = f * 16 + 8 + (h - 1) := by rw [eT1]; exact nI_clamp (by omega)
  have eT2 : nI (f * 16 + 8 + h) - 2 = nI (f * 16 + 8 + (h - 2)) := by rw [sm_sb2 (by omega)]; congr 1; omega
  have vT2 : vp_in (nI (f * 16 + 8 + h) - 2) 128 := by rw [eT2]; exact vp_in_nI (by omega) (by decide)
  have cT2 : (nI (f * 16 + 8 + h) - 2).toNatClampNeg = f * 16 + 8 + (h - 2) := by rw [eT2]; exact nI_clamp (by omega)
  exact nm_r (e' := nI f) (nI_pred f) (br_t (nI_pos' (by omega)) (And.intro v8 (nm_r (e' := nI (fa f)) (by rw [c8, sm_nap]) (And.intro vi (nm_r (e' := nI 8) eo (And.intro vi (nm_r (e' := nI (f * 16 + 8 + h)) (by rw [ci, sm_nap, hxh, sm_mu16, sm_ad8, nI_add]) (br_t (by decide) (br_f (by decide) (And.intro vT2 (nm_r (e' := (sl (f * 16 + 8 + (h - 2)))) (by rw [cT2]) (And.intro vT1 (nm_r (e' := (sl (f * 16 + 8 + (h - 1)))) (by rw [cT1]) (And.intro vi (nm_r (e' := nI 8) eo (br_f (by decide) (br_t (by decide) (br_c (fun z => And.intro vT2 (nm_r (e' := upd sl (f * 16 + 8 + (h - 2)) 1) (by rw [cT2]) (And.intro v8 (nm_r (e' := sm_n (sm_u fa f (fa f + 1))) (by rw [c8, nI_1, sm_nu]) (hp1 z))))) (fun z => And.intro vT2 (nm_r (e' := upd sl (f * 16 + 8 + (h - 2)) 0) (by rw [cT2]) (And.intro v8 (nm_r (e' := sm_n (sm_u fa f (fa f + 1))) (by rw [c8, nI_1, sm_nu]) (hp0 z)))))))))))))))))))))))
theorem sm_xs10 (h8 : f < 8) (hi : fa f < nt) (n160 : nt ≤ 160) (hxh : xh (fa f) = h) (hh8 : h ≤ 8) (hx : xo (fa f) = 10) (hh1 : 1 ≤ h) {a : Nat} (ea : sl (f * 16 + 8 + (h - 1)) = nI a) (a1 : 1 ≤ a) (a2 : a ≤ 32) (hp : post (xle, xpe, nI cp, nI lm, sta, nI np, opn, nI nt, xch, xck, xbc, nI (f + 1), nI sb, nI us, xcb, xcc, col, nI bo, nI oc, res, sm_n pm, sm_n vs, sm_n mk, sm_k gl, sm_n fi, sm_n tk, sm_n xo, sm_n (sm_ar tk), sm_n xj, sm_n ow, sm_n xh, sm_n xk, sm_n xl, xbk, xbp, xbh, sm_n fp, sm_n (sm_u fa f (fa f + 1)), upd sl (f * 16 + 8 + (h - 1)) (cn a), cn, cl, cr, sm_n cb, fw, ou)) : wpX_step post (xle, xpe, nI cp, nI lm, sta, nI np, opn, nI nt, xch, xck, xbc, nI (f + 1), nI sb, nI us, xcb, xcc, col, nI bo, nI oc, res, sm_n pm, sm_n vs, sm_n mk, sm_k gl, sm_n fi, sm_n tk, sm_n xo, sm_n (sm_ar tk), sm_n xj, sm_n ow, sm_n xh, sm_n xk, sm_n xl, xbk, xbp, xbh, sm_n fp, sm_n fa, sl, cn, cl, cr, sm_n cb, fw, ou) := by
  have v8 : vp_in (nI f) 8 := vp_in_nI h8 (by decide)
  have c8 : (nI f).toNatClampNeg = f := nI_clamp (by omega)
  have vi : vp_in (nI (fa f)) 160 := vp_in_nI (by omega) (by decide)
  have ci : (nI (fa f)).toNatClampNeg = fa f := nI_clamp (by omega)
  have eo : sm_n xo (nI (fa f)).toNatClampNeg = nI 10 := by rw [ci, sm_nap, hx]
  have eA : nI f * 16 + sm_n (sm_ar tk) (nI (fa f)).toNatClampNeg = nI (f * 16 + tk (fa f) / 100) := by rw [ci, sm_nap, sm_arap, sm_mu16, nI_add]
  have eT1 : nI (f * 16 + 8 + h) - 1 = nI (f * 16 + 8 + (h - 1)) := by rw [sm_sb1 (by omega)]; congr 1; omega
  have vT1 : vp_in (nI (f * 16 + 8 + h) - 1) 128 := by rw [eT1]; exact vp_in_nI (by omega) (by decide)
  have cT1 : (nI (f * 16 + 8 + h) - 1).toNatClampNeg = f * 16 + 8 + (h - 1) := by rw [eT1]; exact nI_clamp (by omega)
  have va : vp_in (nI a) 33 := vp_in_nI (by omega) (by decide)
  have ca : (nI a).toNatClampNeg = a := nI_clamp (by omega)
  exact nm_r (e' := nI f) (nI_pred f) (br_t (nI_pos' (by omega)) (And.intro v8 (nm_r (e' := nI (fa f)) (by rw [c8, sm_nap]) (And.intro vi (nm_r (e' := nI 10) eo (And.intro vi (nm_r (e' := nI (f * 16 + 8 + h)) (by rw [ci, sm_nap, hxh, sm_mu16, sm_ad8, nI_add]) (br_t (by decide) (br_t (by decide) (br_f (by decide) (br_f (by decide) (And.intro vT1 (nm_r (e' := nI a) (by rw [cT1, ea]) (br_f (nI_nlt (b := 1) a1 (by omega)) (br_t (nI_le (b := 32) a2 (by decide)) (And.intro vi (nm_r (e' := nI 10) eo (br_t (by decide) (And.intro va (And.intro vT1 (nm_r (e' := upd sl (f * 16 + 8 + (h - 1)) (cn a)) (by rw [cT1, ca]) (And.intro v8 (nm_r (e' := sm_n (sm_u fa f (fa f + 1))) (by rw [c8, nI_1, sm_nu]) hp)))))))))))))))))))))))
theorem sm_xs11 (h8 : f < 8) (hi : fa f < nt) (n160 : nt ≤ 160) (hxh : xh (fa f) = h) (hh8 : h ≤ 8) (hx : xo (fa f) = 11) (hh1 : 1 ≤ h) {a : Nat} (ea : sl (f * 16 + 8 + (h - 1)) = nI a) (a1 : 1 ≤ a) (a2 : a ≤ 32) (hp : post (xle, xpe, nI cp, nI lm, sta, nI np, opn, nI nt, xch, xck, xbc, nI (f + 1), nI sb, nI us, xcb, xcc, col, nI bo, nI oc, res, sm_n pm, sm_n vs, sm_n mk, sm_k gl, sm_n fi, sm_n tk, sm_n xo, sm_n (sm_ar tk), sm_n xj, sm_n ow, sm_n xh, sm_n xk, sm_n xl, xbk, xbp, xbh, sm_n fp, sm_n (sm_u fa f (fa f + 1)), upd sl (f * 16 + 8 + (h - 1)) (cl a), cn, cl, cr, sm_n cb, fw, ou)) : wpX_step post (xle, xpe, nI cp, nI lm, sta, nI np, opn, nI nt, xch, xck, xbc, nI (f + 1), nI sb, nI us, xcb, xcc, col, nI bo, nI oc, res, sm_n pm, sm_n vs, sm_n mk, sm_k gl, sm_n fi, sm_n tk, sm_n xo, sm_n (sm_ar tk), sm_n xj, sm_n ow, sm_n xh, sm_n xk, sm_n xl, xbk, xbp, xbh, sm_n fp, sm_n fa, sl, cn, cl, cr, sm_n cb, fw, ou) := by
  have v8 : vp_in (nI f) 8 := vp_in_nI h8 (by decide)
  have c8 : (nI f).toNatClampNeg = f := nI_clamp (by omega)
  have vi : vp_in (nI (fa f)) 160 := vp_in_nI (by omega) (by decide)
  have ci : (nI (fa f)).toNatClampNeg = fa f := nI_clamp (by omega)
  have eo : sm_n xo (nI (fa f)).toNatClampNeg = nI 11 := by rw [ci, sm_nap, hx]
  have eA : nI f * 16 + sm_n (sm_ar tk) (nI (fa f)).toNatClampNeg = nI (f * 16 + tk (fa f) / 100) := by rw [ci, sm_nap, sm_arap, sm_mu16, nI_add]
  have eT1 : nI (f * 16 + 8 + h) - 1 = nI (f * 16 + 8 + (h - 1)) := by rw [sm_sb1 (by omega)]; congr 1; omega
  have vT1 : vp_in (nI (f * 16 + 8 + h) - 1) 128 := by rw [eT1]; exact vp_in_nI (by omega) (by decide)
  have cT1 : (nI (f * 16 + 8 + h) - 1).toNatClampNeg = f * 16 + 8 + (h - 1) := by rw [eT1]; exact nI_clamp (by omega)
  have va : vp_in (nI a) 33 := vp_in_nI (by omega) (by decide)
  have ca : (nI a).toNatClampNeg = a := nI_clamp (by omega)
  exact nm_r (e' := nI f) (nI_pred f) (br_t (nI_pos' (by omega)) (And.intro v8 (nm_r (e' := nI (fa f)) (by rw [c8, sm_nap]) (And.intro vi (nm_r (e' := nI 11) eo (And.intro vi (nm_r (e' := nI (f * 16 + 8 + h)) (by rw [ci, sm_nap, hxh, sm_mu16, sm_ad8, nI_add]) (br_t (by decide) (br_t (by decide) (br_f (by decide) (br_f (by decide) (And.intro vT1 (nm_r (e' := nI a) (by rw [cT1, ea]) (br_f (nI_nlt (b := 1) a1 (by omega)) (br_t (nI_le (b := 32) a2 (by decide)) (And.intro vi (nm_r (e' := nI 11) eo (br_f (by decide) (br_t (by decide) (And.intro va (And.intro vT1 (nm_r (e' := upd sl (f * 16 + 8 + (h - 1)) (cl a)) (by rw [cT1, ca]) (And.intro v8 (nm_r (e' := sm_n (sm_u fa f (fa f + 1))) (by rw [c8, nI_1, sm_nu]) hp))))))))))))))))))))))))
theorem sm_xs12 (h8 : f < 8) (hi : fa f < nt) (n160 : nt ≤ 160) (hxh : xh (fa f) = h) (hh8 : h ≤ 8) (hx : xo (fa f) = 12) (hh1 : 1 ≤ h) {a : Nat} (ea : sl (f * 16 + 8 + (h - 1)) = nI a) (a1 : 1 ≤ a) (a2 : a ≤ 32) (hp : post (xle, xpe, nI cp, nI lm, sta, nI np, opn, nI nt, xch, xck, xbc, nI (f + 1), nI sb, nI us, xcb, xcc, col, nI bo, nI oc, res, sm_n pm, sm_n vs, sm_n mk, sm_k gl, sm_n fi, sm_n tk, sm_n xo, sm_n (sm_ar tk), sm_n xj, sm_n ow, sm_n xh, sm_n xk, sm_n xl, xbk, xbp, xbh, sm_n fp, sm_n (sm_u fa f (fa f + 1)), upd sl (f * 16 + 8 + (h - 1)) (cr a), cn, cl, cr, sm_n cb, fw, ou)) : wpX_step post (xle, xpe, nI cp, nI lm, sta, nI np, opn, nI nt, xch, xck, xbc, nI (f + 1), nI sb, nI us, xcb, xcc, col, nI bo, nI oc, res, sm_n pm, sm_n vs, sm_n mk, sm_k gl, sm_n fi, sm_n tk, sm_n xo, sm_n (sm_ar tk), sm_n xj, sm_n ow, sm_n xh, sm_n xk, sm_n xl, xbk, xbp, xbh, sm_n fp, sm_n fa, sl, cn, cl, cr, sm_n cb, fw, ou) := by
  have v8 : vp_in (nI f) 8 := vp_in_nI h8 (by decide)
  have c8 : (nI f).toNatClampNeg = f := nI_clamp (by omega)
  have vi : vp_in (nI (fa f)) 160 := vp_in_nI (by omega) (by decide)
  have ci : (nI (fa f)).toNatClampNeg = fa f := nI_clamp (by omega)
  have eo : sm_n xo (nI (fa f)).toNatClampNeg = nI 12 := by rw [ci, sm_nap, hx]
  have eA : nI f * 16 + sm_n (sm_ar tk) (nI (fa f)).toNatClampNeg = nI (f * 16 + tk (fa f) / 100) := by rw [ci, sm_nap, sm_arap, sm_mu16, nI_add]
  have eT1 : nI (f * 16 + 8 + h) - 1 = nI (f * 16 + 8 + (h - 1)) := by rw [sm_sb1 (by omega)]; congr 1; omega
  have vT1 : vp_in (nI (f * 16 + 8 + h) - 1) 128 := by rw [eT1]; exact vp_in_nI (by omega) (by decide)
  have cT1 : (nI (f * 16 + 8 + h) - 1).toNatClampNeg = f * 16 + 8 + (h - 1) := by rw [eT1]; exact nI_clamp (by omega)
  have va : vp_in (nI a) 33 := vp_in_nI (by omega) (by decide)
  have ca : (nI a).toNatClampNeg = a := nI_clamp (by omega)
  exact nm_r (e' := nI f) (nI_pred f) (br_t (nI_pos' (by omega)) (And.intro v8 (nm_r (e' := nI (fa f)) (by rw [c8, sm_nap]) (And.intro vi (nm_r (e' := nI 12) eo (And.intro vi (nm_r (e' := nI (f * 16 + 8 + h)) (by rw [ci, sm_nap, hxh, sm_mu16, sm_ad8, nI_add]) (br_t (by decide) (br_t (by decide) (br_f (by decide) (br_f (by decide) (And.intro vT1 (nm_r (e' := nI a) (by rw [cT1, ea]) (br_f (nI_nlt (b := 1) a1 (by omega)) (br_t (nI_le (b := 32) a2 (by decide)) (And.intro vi (nm_r (e' := nI 12) eo (br_f (by decide) (br_f (by decide) (And.intro va (And.intro vT1 (nm_r (e' := upd sl (f * 16 + 8 + (h - 1)) (cr a)) (by rw [cT1, ca]) (And.intro v8 (nm_r (e' := sm_n (sm_u fa f (fa f + 1))) (by rw [c8, nI_1, sm_nu]) hp))))))))))))))))))))))))
theorem sm_xsR (h8 : f < 8) (hi : fa f < nt) (n160 : nt ≤ 160) (hxh : xh (fa f) = h) (hh8 : h ≤ 8) (hx : xo (fa f) = 10 ∨ xo (fa f) = 11 ∨ xo (fa f) = 12) (hh1 : 1 ≤ h) (ea : sl (f * 16 + 8 + (h - 1)) = 0) (hp : post (xle, xpe, nI cp, nI lm, 4, nI np, opn, nI nt, xch, xck, xbc, nI (f + 1), nI sb, nI us, xcb, xcc, col, nI bo, nI oc, res, sm_n pm, sm_n vs, sm_n mk, sm_k gl, sm_n fi, sm_n tk, sm_n xo, sm_n (sm_ar tk), sm_n xj, sm_n ow, sm_n xh, sm_n xk, sm_n xl, xbk, xbp, xbh, sm_n fp, sm_n fa, sl, cn, cl, cr, sm_n cb, fw, ou)) : wpX_step post (xle, xpe, nI cp, nI lm, sta, nI np, opn, nI nt, xch, xck, xbc, nI (f + 1), nI sb, nI us, xcb, xcc, col, nI bo, nI oc, res, sm_n pm, sm_n vs, sm_n mk, sm_k gl, sm_n fi, sm_n tk, sm_n xo, sm_n (sm_ar tk), sm_n xj, sm_n ow, sm_n xh, sm_n xk, sm_n xl, xbk, xbp, xbh, sm_n fp, sm_n fa, sl, cn, cl, cr, sm_n cb, fw, ou) := by
  rcases hx with hx | hx | hx
  · have v8 : vp_in (nI f) 8 := vp_in_nI h8 (by decide)
    have c8 : (nI f).toNatClampNeg = f := nI_clamp (by omega)
    have vi : vp_in (nI (fa f)) 160 := vp_in_nI (by omega) (by decide)
    have ci : (nI (fa f)).toNatClampNeg = fa f := nI_clamp (by omega)
    have eo : sm_n xo (nI (fa f)).toNatClampNeg = nI 10 := by rw [ci, sm_nap, hx]
    have eA : nI f * 16 + sm_n (sm_ar tk) (nI (fa f)).toNatClampNeg = nI (f * 16 + tk (fa f) / 100) := by rw [ci, sm_nap, sm_arap, sm_mu16, nI_add]
    have eT1 : nI (f * 16 + 8 + h) - 1 = nI (f * 16 + 8 + (h - 1)) := by rw [sm_sb1 (by omega)]; congr 1; omega
    have vT1 : vp_in (nI (f * 16 + 8 + h) - 1) 128 := by rw [eT1]; exact vp_in_nI (by omega) (by decide)
    have cT1 : (nI (f * 16 + 8 + h) - 1).toNatClampNeg = f * 16 + 8 + (h - 1) := by rw [eT1]; exact nI_clamp (by omega)
    exact nm_r (e' := nI f) (nI_pred f) (br_t (nI_pos' (by omega)) (And.intro v8 (nm_r (e' := nI (fa f)) (by rw [c8, sm_nap]) (And.intro vi (nm_r (e' := nI 10) eo (And.intro vi (nm_r (e' := nI (f * 16 + 8 + h)) (by rw [ci, sm_nap, hxh, sm_mu16, sm_ad8, nI_add]) (br_t (by decide) (br_t (by decide) (br_f (by decide) (br_f (by decide) (And.intro vT1 (nm_r (e' := 0) (by rw [cT1, ea]) (br_t (by decide) hp))))))))))))))
  · have v8 : vp_in (nI f) 8 := vp_in_nI h8 (by decide)
    have c8 : (nI f).toNatClampNeg = f := nI_clamp (by omega)
    have vi : vp_in (nI (fa f)) 160 := vp_in_nI (by omega) (by decide)
    have ci : (nI (fa f)).toNatClampNeg = fa f := nI_clamp (by omega)
    have eo : sm_n xo (nI (fa f)).toNatClampNeg = nI 11 := by rw [ci, sm_nap, hx]
    have eA : nI f * 16 + sm_n (sm_ar tk) (nI (fa f)).toNatClampNeg = nI (f * 16 + tk (fa f) / 100) := by rw [ci, sm_nap, sm_arap, sm_mu16, nI_add]
    have eT1 : nI (f * 16 + 8 + h) - 1 = nI (f * 16 + 8 + (h - 1)) := by rw [sm_sb1 (by omega)]; congr 1; omega
    have vT1 : vp_in (nI (f * 16 + 8 + h) - 1) 128 := by rw [eT1]; exact vp_in_nI (by omega) (by decide)
    have cT1 : (nI (f * 16 + 8 + h) - 1).toNatClampNeg = f * 16 + 8 + (h - 1) := by rw [eT1]; exact nI_clamp (by omega)
    exact nm_r (e' := nI f) (nI_pred f) (br_t (nI_pos' (by omega)) (And.intro v8 (nm_r (e' := nI (fa f)) (by rw [c8, sm_nap]) (And.intro vi (nm_r (e' := nI 11) eo (And.intro vi (nm_r (e' := nI (f * 16 + 8 + h)) (by rw [ci, sm_nap, hxh, sm_mu16, sm_ad8, nI_add]) (br_t (by decide) (br_t (by decide) (br_f (by decide) (br_f (by decide) (And.intro vT1 (nm_r (e' := 0) (by rw [cT1, ea]) (br_t (by decide) hp))))))))))))))
  · have v8 : vp_in (nI f) 8 := vp_in_nI h8 (by decide)
    have c8 : (nI f).toNatClampNeg = f := nI_clamp (by omega)
    have vi : vp_in (nI (fa f)) 160 := vp_in_nI (by omega) (by decide)
    have ci : (nI (fa f)).toNatClampNeg = fa f := nI_clamp (by omega)
    have eo : sm_n xo (nI (fa f)).toNatClampNeg = nI 12 := by rw [ci, sm_nap, hx]
    have eA : nI f * 16 + sm_n (sm_ar tk) (nI (fa f)).toNatClampNeg = nI (f * 16 + tk (fa f) / 100) := by rw [ci, sm_nap, sm_arap, sm_mu16, nI_add]
    have eT1 : nI (f * 16 + 8 + h) - 1 = nI (f * 16 + 8 + (h - 1)) := by rw [sm_sb1 (by omega)]; congr 1; omega
    have vT1 : vp_in (nI (f * 16 + 8 + h) - 1) 128 := by rw [eT1]; exact vp_in_nI (by omega) (by decide)
    have cT1 : (nI (f * 16 + 8 + h) - 1).toNatClampNeg = f * 16 + 8 + (h - 1) := by rw [eT1]; exact nI_clamp (by omega)
    exact nm_r (e' := nI f) (nI_pred f) (br_t (nI_pos' (by omega)) (And.intro v8 (nm_r (e' := nI (fa f)) (by rw [c8, sm_nap]) (And.intro vi (nm_r (e' := nI 12) eo (And.intro vi (nm_r (e' := nI (f * 16 + 8 + h)) (by rw [ci, sm_nap, hxh, sm_mu16, sm_ad8, nI_add]) (br_t (by decide) (br_t (by decide) (br_f (by decide) (br_f (by decide) (And.intro vT1 (nm_r (e' := 0) (by rw [cT1, ea]) (br_t (by decide) hp))))))))))))))
theorem sm_xs15 (h8 : f < 8) (hi : fa f < nt) (n160 : nt ≤ 160) (hxh : xh (fa f) = h) (hh8 : h ≤ 8) (hx : xo (fa f) = 15) (hh2 : 2 ≤ h) {a : Nat} (ea : sl (f * 16 + 8 + (h - 2)) = nI a) (a1 : 1 ≤ a) (a2 : a ≤ 32) (hp : post (xle, xpe, nI cp, nI lm, sta, nI np, opn, nI nt, xch, xck, xbc, nI (f + 1), nI sb, nI us, xcb, xcc, col, nI bo, nI oc, res, sm_n pm, sm_n vs, sm_n mk, sm_k gl, sm_n fi, sm_n tk, sm_n xo, sm_n (sm_ar tk), sm_n xj, sm_n ow, sm_n xh, sm_n xk, sm_n xl, xbk, xbp, xbh, sm_n fp, sm_n (sm_u fa f (fa f + 1)), sl, upd cn a (sl (f * 16 + 8 + (h - 1))), cl, cr, sm_n cb, fw, ou)) : wpX_step post (xle, xpe, nI cp, nI lm, sta, nI np, opn, nI nt, xch, xck, xbc, nI (f + 1), nI sb, nI us, xcb, xcc, col, nI bo, nI oc, res, sm_n pm, sm_n vs, sm_n mk, sm_k gl, sm_n fi, sm_n tk, sm_n xo, sm_n (sm_ar tk), sm_n xj, sm_n ow, sm_n xh, sm_n xk, sm_n xl, xbk, xbp, xbh, sm_n fp, sm_n fa, sl, cn, cl, cr, sm_n cb, fw, ou) := by
  have v8 : vp_in (nI f) 8 := vp_in_nI h8 (by decide)
  have c8 : (nI f).toNatClampNeg = f := nI_clamp (by omega)
  have vi : vp_in (nI (fa f)) 160 := vp_in_nI (by omega) (by decide)
  have ci : (nI (fa f)).toNatClampNeg = fa f := nI_clamp (by omega)
  have eo : sm_n xo (nI (fa f)).toNatClampNeg = nI 15 := by rw [ci, sm_nap, hx]
  have eA : nI f * 16 + sm_n (sm_ar tk) (nI (fa f)).toNatClampNeg = nI (f * 16 + tk (fa f) / 100) := by rw [ci, sm_nap, sm_arap, sm_mu16, nI_add]
  have eT1 : nI (f * 16 + 8 + h) - 1 = nI (f * 16 + 8 + (h - 1)) := by rw [sm_sb1 (by omega)]; congr 1; omega
  have vT1 : vp_in (nI (f * 16 + 8 + h) - 1) 128 := by rw [eT1]; exact vp_in_nI (by omega) (by decide)
  have cT1 : (nI (f * 16 + 8 + h) - 1).toNatClampNeg = f * 16 + 8 + (h - 1) := by rw [eT1]; exact nI_clamp (by omega)
  have eT2 : nI (f * 16 + 8 + h) - 2 = nI (f * 16 + 8 + (h - 2)) := by rw [sm_sb2 (by omega)]; congr 1; omega
  have vT2 : vp_in (nI (f * 16 + 8 + h) - 2) 128 := by rw [eT2]; exact vp_in_nI (by omega) (by decide)
  have cT2 : (nI (f * 16 + 8 + h) - 2).toNatClampNeg = f * 16 + 8 + (h - 2) := by rw [eT2]; exact nI_clamp (by omega)
  have va : vp_in (nI a) 33 := vp_in_nI (by omega) (by decide)
  have ca : (nI a).toNatClampNeg = a := nI_clamp (by omega)
  exact nm_r (e' := nI f) (nI_pred f) (br_t (nI_pos' (by omega)) (And.intro v8 (nm_r (e' := nI (fa f)) (by rw [c8, sm_nap]) (And.intro vi (nm_r (e' := nI 15) eo (And.intro vi (nm_r (e' := nI (f * 16 + 8 + h)) (by rw [ci, sm_nap, hxh, sm_mu16, sm_ad8, nI_add]) (br_t (by decide) (br_t (by decide) (br_f (by decide) (br_t (by decide) (br_f (by decide) (br_f (by decide) (br_f (by decide) (And.intro vT2 (nm_r (e' := nI a) (by rw [cT2, ea]) (br_f (nI_nlt (b := 1) a1 (by omega)) (br_t (nI_le (b := 32) a2 (by decide)) (And.intro vi (nm_r (e' := nI 15) eo (br_t (by decide) (And.intro vT1 (And.intro va (nm_r (e' := upd cn a (sl (f * 16 + 8 + (h - 1)))) (by rw [cT1, ca]) (And.intro v8 (nm_r (e' := sm_n (sm_u fa f (fa f + 1))) (by rw [c8, nI_1, sm_nu]) hp))))))))))))))))))))))))))
theorem sm_xs16 (h8 : f < 8) (hi : fa f < nt) (n160 : nt ≤ 160) (hxh : xh (fa f) = h) (hh8 : h ≤ 8) (hx : xo (fa f) = 16) (hh2 : 2 ≤ h) {a : Nat} (ea : sl (f * 16 + 8 + (h - 2)) = nI a) (a1 : 1 ≤ a) (a2 : a ≤ 32) (hp : post (xle, xpe, nI cp, nI lm, sta, nI np, opn, nI nt, xch, xck, xbc, nI (f + 1), nI sb, nI us, xcb, xcc, col, nI bo, nI oc, res, sm_n pm, sm_n vs, sm_n mk, sm_k gl, sm_n fi, sm_n tk, sm_n xo, sm_n (sm_ar tk), sm_n xj, sm_n ow, sm_n xh, sm_n xk, sm_n xl, xbk, xbp, xbh, sm_n fp, sm_n (sm_u fa f (fa f + 1)), sl, cn, upd cl a (sl (f * 16 + 8 + (h - 1))), cr, sm_n cb, fw, ou)) : wpX_step post (xle, xpe, nI cp, nI lm, sta, nI np, opn, nI nt, xch, xck, xbc, nI (f + 1), nI sb, nI us, xcb, xcc, col, nI bo, nI oc, res, sm_n pm, sm_n vs, sm_n mk, sm_k gl, sm_n fi, sm_n tk, sm_n xo, sm_n (sm_ar tk), sm_n xj, sm_n ow, sm_n xh, sm_n xk, sm_n xl, xbk, xbp, xbh, sm_n fp, sm_n fa, sl, cn, cl, cr, sm_n cb, fw, ou) := by
  have v8 : vp_in (nI f) 8 := vp_in_nI h8 (by decide)
  have c8 : (nI f).toNatClampNeg = f := nI_clamp (by omega)
  have vi : vp_in (nI (fa f)) 160 := vp_in_nI (by omega) (by decide)
  have ci : (nI (fa f)).toNatClampNeg = fa f := nI_clamp (by omega)
  have eo : sm_n xo (nI (fa f)).toNatClampNeg = nI 16 := by rw [ci, sm_nap, hx]
  have eA : nI f * 16 + sm_n (sm_ar tk) (nI (fa f)).toNatClampNeg = nI (f * 16 + tk (fa f) / 100) := by rw [ci, sm_nap, sm_arap, sm_mu16, nI_add]
  have eT1 : nI (f * 16 + 8 + h) - 1 = nI (f * 16 + 8 + (h - 1)) := by rw [sm_sb1 (by omega)]; congr 1; omega
  have vT1 : vp_in (nI (f * 16 + 8 + h) - 1) 128 := by rw [eT1]; exact vp_in_nI (by omega) (by decide)
  have cT1 : (nI (f * 16 + 8 + h) - 1).toNatClampNeg = f * 16 + 8 + (h - 1) := by rw [eT1]; exact nI_clamp (by omega)
  have eT2 : nI (f * 16 + 8 + h) - 2 = nI (f * 16 + 8 + (h - 2)) := by rw [sm_sb2 (by omega)]; congr 1; omega
  have vT2 : vp_in (nI (f * 16 + 8 + h) - 2) 128 := by rw [eT2]; exact vp_in_nI (by omega) (by decide)
  have cT2 : (nI (f * 16 + 8 + h) - 2).toNatClampNeg = f * 16 + 8 + (h - 2) := by rw [eT2]; exact nI_clamp (by omega)
  have va : vp_in (nI a) 33 := vp_in_nI (by omega) (by decide)
  have ca : (nI a).toNatClampNeg = a := nI_clamp (by omega)
  exact nm_r (e' := nI f) (nI_pred f) (br_t (nI_pos' (by omega)) (And.intro v8 (nm_r (e' := nI (fa f)) (by rw [c8, sm_nap]) (And.intro vi (nm_r (e' := nI 16) eo (And.intro vi (nm_r (e' := nI (f * 16 + 8 + h)) (by rw [ci, sm_nap, hxh, sm_mu16, sm_ad8, nI_add]) (br_t (by decide) (br_t (by decide) (br_f (by decide) (br_t (by decide) (br_f (by decide) (br_f (by decide) (br_f (by decide) (And.intro vT2 (nm_r (e' := nI a) (by rw [cT2, ea]) (br_f (nI_nlt (b := 1) a1 (by omega)) (br_t (nI_le (b := 32) a2 (by decide)) (And.intro vi (nm_r (e' := nI 16) eo (br_f (by decide) (br_t (by decide) (And.intro vT1 (And.intro va (nm_r (e' := upd cl a (sl (f * 16 + 8 + (h - 1)))) (by rw [cT1, ca]) (And.intro v8 (nm_r (e' := sm_n (sm_u fa f (fa f + 1))) (by rw [c8, nI_1, sm_nu]) hp)))))))))))))))))))))))))))
theorem sm_xs17 (h8 : f < 8) (hi : fa f < nt) (n160 : nt ≤ 160) (hxh : xh (fa f) = h) (hh8 : h ≤ 8) (hx : xo (fa f) = 17) (hh2 : 2 ≤ h) {a : Nat} (ea : sl (f * 16 + 8 + (h - 2)) = nI a) (a1 : 1 ≤ a) (a2 : a ≤ 32) (hp : post (xle, xpe, nI cp, nI lm, sta, nI np, opn, nI nt, xch, xck, xbc, nI (f + 1), nI sb, nI us, xcb, xcc, col, nI bo, nI oc, res, sm_n pm, sm_n vs, sm_n mk, sm_k gl, sm_n fi, sm_n tk, sm_n xo, sm_n (sm_ar tk), sm_n xj, sm_n ow, sm_n xh, sm_n xk, sm_n xl, xbk, xbp, xbh, sm_n fp, sm_n (sm_u fa f (fa f + 1)), sl, cn, cl, upd cr a (sl (f * 16 + 8 + (h - 1))), sm_n cb, fw, ou)) : wpX_step post (xle, xpe, nI cp, nI lm, sta, nI np, opn, nI nt, xch, xck, xbc, nI (f + 1), nI sb, nI us, xcb, xcc, col, nI bo, nI oc, res, sm_n pm, sm_n vs, sm_n mk, sm_k gl, sm_n fi, sm_n tk, sm_n xo, sm_n (sm_ar tk), sm_n xj, sm_n ow, sm_n xh, sm_n xk, sm_n xl, xbk, xbp, xbh, sm_n fp, sm_n fa, sl, cn, cl, cr, sm_n cb, fw, ou) := by
  have v8 : vp_in (nI f) 8 := vp_in_nI h8 (by decide)
  have c8 : (nI f).toNatClampNeg = f := nI_clamp (by omega)
  have vi : vp_in (nI (fa f)) 160 := vp_in_nI (by omega) (by decide)
  have ci : (nI (fa f)).toNatClampNeg = fa f := nI_clamp (by omega)
  have eo : sm_n xo (nI (fa f)).toNatClampNeg = nI 17 := by rw [ci, sm_nap, hx]
  have eA : nI f * 16 + sm_n (sm_ar tk) (nI (fa f)).toNatClampNeg = nI (f * 16 + tk (fa f) / 100) := by rw [ci, sm_nap, sm_arap, sm_mu16, nI_add]
  have eT1 : nI (f * 16 + 8 + h) - 1 = nI (f * 16 + 8 + (h - 1)) := by rw [sm_sb1 (by omega)]; congr 1; omega
  have vT1 : vp_in (nI (f * 16 + 8 + h) - 1) 128 := by rw [eT1]; exact vp_in_nI (by omega) (by decide)
  have cT1 : (nI (f * 16 + 8 + h) - 1).toNatClampNeg = f * 16 + 8 + (h - 1) := by rw [eT1]; exact nI_clamp (by omega)
  have eT2 : nI (f * 16 + 8 + h) - 2 = nI (f * 16 + 8 + (h - 2)) := by rw [sm_sb2 (by omega)]; congr 1; omega
  have vT2 : vp_in (nI (f * 16 + 8 + h) - 2) 128 := by rw [eT2]; exact vp_in_nI (by omega) (by decide)
  have cT2 : (nI (f * 16 + 8 + h) - 2).toNatClampNeg = f * 16 + 8 + (h - 2) := by rw [eT2]; exact nI_clamp (by omega)
  have va : vp_in (nI a) 33 := vp_in_nI (by omega) (by decide)
  have ca : (nI a).toNatClampNeg = a := nI_clamp (by omega)
  exact nm_r (e' := nI f) (nI_pred f) (br_t (nI_pos' (by omega)) (And.intro v8 (nm_r (e' := nI (fa f)) (by rw [c8, sm_nap]) (And.intro vi (nm_r (e' := nI 17) eo (And.intro vi (nm_r (e' := nI (f * 16 + 8 + h)) (by rw [ci, sm_nap, hxh, sm_mu16, sm_ad8, nI_add]) (br_t (by decide) (br_t (by decide) (br_f (by decide) (br_t (by decide) (br_f (by decide) (br_f (by decide) (br_f (by decide) (And.intro vT2 (nm_r (e' := nI a) (by rw [cT2, ea]) (br_f (nI_nlt (b := 1) a1 (by omega)) (br_t (nI_le (b := 32) a2 (by decide)) (And.intro vi (nm_r (e' := nI 17) eo (br_f (by decide) (br_f (by decide) (And.intro vT1 (And.intro va (nm_r (e' := upd cr a (sl (f * 16 + 8 + (h - 1)))) (by rw [cT1, ca]) (And.intro v8 (nm_r (e' := sm_n (sm_u fa f (fa f + 1))) (by rw [c8, nI_1, sm_nu]) hp)))))))))))))))))))))))))))
theorem sm_xsW (h8 : f < 8) (hi : fa f < nt) (n160 : nt ≤ 160) (hxh : xh (fa f) = h) (hh8 : h ≤ 8) (hx : xo (fa f) = 15 ∨ xo (fa f) = 16 ∨ xo (fa f) = 17) (hh2 : 2 ≤ h) (ea : sl (f * 16 + 8 + (h - 2)) = 0) (hp : post (xle, xpe, nI cp, nI lm, 4, nI np, opn, nI nt, xch, xck, xbc, nI (f + 1), nI sb, nI us, xcb, xcc, col, nI bo, nI oc, res, sm_n pm, sm_n vs, sm_n mk, sm_k gl, sm_n fi, sm_n tk, sm_n xo, sm_n (sm_ar tk), sm_n xj, sm_n ow, sm_n xh, sm_n xk, sm_n xl, xbk, xbp, xbh, sm_n fp, sm_n fa, sl, cn, cl, cr, sm_n cb, fw, ou)) : wpX_step post (xle, xpe, nI cp, nI lm, sta, nI np, opn, nI nt, xch, xck, xbc, nI (f + 1), nI sb, nI us, xcb, xcc, col, nI bo, nI oc, res, sm_n pm, sm_n vs, sm_n mk, sm_k gl, sm_n fi, sm_n tk, sm_n xo, sm_n (sm_ar tk), sm_n xj, sm_n ow, sm_n xh, sm_n xk, sm_n xl, xbk, xbp, xbh, sm_n fp, sm_n fa, sl, cn, cl, cr, sm_n cb, fw, ou) := by
  rcases hx with hx | hx | hx
  · have v8 : vp_in (nI f) 8 := vp_in_nI h8 (by decide)
    have c8 : (nI f).toNatClampNeg = f := nI_clamp (by omega)
    have vi : vp_in (nI (fa f)) 160 := vp_in_nI (by omega) (by decide)
    have ci : (nI (fa f)).toNatClampNeg = fa f := nI_clamp (by omega)
    have eo : sm_n xo (nI (fa f)).toNatClampNeg = nI 15 := by rw [ci, sm_nap, hx]
    have eA : nI f * 16 + sm_n (sm_ar tk) (nI (fa f)).toNatClampNeg = nI (f * 16 + tk (fa f) / 100) := by rw [ci, sm_nap, sm_arap, sm_mu16, nI_add]
    have eT1 : nI (f * 16 + 8 + h) - 1 = nI (f * 16 + 8 + (h - 1)) := by rw [sm_sb1 (by omega)]; congr 1; omega
    have vT1 : vp_in (nI (f * 16 + 8 + h) - 1) 128 := by rw [eT1]; exact vp_in_nI (by omega) (by decide)
    have cT1 : (nI (f * 16 + 8 + h) - 1).toNatClampNeg = f * 16 + 8 + (h - 1) := by rw [eT1]; exact nI_clamp (by omega)
    have eT2 : nI (f * 16 + 8 + h) - 2 = nI (f * 16 + 8 + (h - 2)) := by rw [sm_sb2 (by omega)]; congr 1; omega
    have vT2 : vp_in (nI (f * 16 + 8 + h) - 2) 128 := by rw [eT2]; exact vp_in_nI (by omega) (by decide)
    have cT2 : (nI (f * 16 + 8 + h) - 2).toNatClampNeg = f * 16 + 8 + (h - 2) := by rw [eT2]; exact nI_clamp (by omega)
    exact nm_r (e' := nI f) (nI_pred f) (br_t (nI_pos' (by omega)) (And.intro v8 (nm_r (e' := nI (fa f)) (by rw [c8, sm_nap]) (And.intro vi (nm_r (e' := nI 15) eo (And.intro vi (nm_r (e' := nI (f * 16 + 8 + h)) (by rw [ci, sm_nap, hxh, sm_mu16, sm_ad8, nI_add]) (br_t (by decide) (br_t (by decide) (br_f (by decide) (br_t (by decide) (br_f (by decide) (br_f (by decide) (br_f (by decide) (And.intro vT2 (nm_r (e' := 0) (by rw [cT2, ea]) (br_t (by decide) hp)))))))))))))))))
  · have v8 : vp_in (nI f) 8 := vp_in_nI h8 (by decide)
    have c8 : (nI f).toNatClampNeg = f := nI_clamp (by omega)
    have vi : vp_in (nI (fa f)) 160 := vp_in_nI (by omega) (by decide)
    have ci : (nI (fa f)).toNatClampNeg = fa f := nI_clamp (by omega)
    have eo : sm_n xo (nI (fa f)).toNatClampNeg = nI 16 := by rw [ci, sm_nap, hx]
    have eA : nI f * 16 + sm_n (sm_ar tk) (nI (fa f)).toNatClampNeg = nI (f * 16 + tk (fa f) / 100) := by rw [ci, sm_nap, sm_arap, sm_mu16, nI_add]
    have eT1 : nI (f * 16 + 8 + h) - 1 = nI (f * 16 + 8 + (h - 1)) := by rw [sm_sb1 (by omega)]; congr 1; omega
    have vT1 : vp_in (nI (f * 16 + 8 + h) - 1) 128 := by rw [eT1]; exact vp_in_nI (by omega) (by decide)
    have cT1 : (nI (f * 16 + 8 + h) - 1).toNatClampNeg = f * 16 + 8 + (h - 1) := by rw [eT1]; exact nI_clamp (by omega)
    have eT2 : nI (f * 16 + 8 + h) - 2 = nI (f * 16 + 8 + (h - 2)) := by rw [sm_sb2 (by omega)]; congr 1; omega
    have vT2 : vp_in (nI (f * 16 + 8 + h) - 2) 128 := by rw [eT2]; exact vp_in_nI (by omega) (by decide)
    have cT2 : (nI (f * 16 + 8 + h) - 2).toNatClampNeg = f * 16 + 8 + (h - 2) := by rw [eT2]; exact nI_clamp (by omega)
    exact nm_r (e' := nI f) (nI_pred f) (br_t (nI_pos' (by omega)) (And.intro v8 (nm_r (e' := nI (fa f)) (by rw [c8, sm_nap]) (And.intro vi (nm_r (e' := nI 16) eo (And.intro vi (nm_r (e' := nI (f * 16 + 8 + h)) (by rw [ci, sm_nap, hxh, sm_mu16, sm_ad8, nI_add]) (br_t (by decide) (br_t (by decide) (br_f (by decide) (br_t (by decide) (br_f (by decide) (br_f (by decide) (br_f (by decide) (And.intro vT2 (nm_r (e' := 0) (by rw [cT2, ea]) (br_t (by decide) hp)))))))))))))))))
  · have v8 : vp_in (nI f) 8 := vp_in_nI h8 (by decide)
    have c8 : (nI f).toNatClampNeg = f := nI_clamp (by omega)
    have vi : vp_in (nI (fa f)) 160 := vp_in_nI (by omega) (by decide)
    have ci : (nI (fa f)).toNatClampNeg = fa f := nI_clamp (by omega)
    have eo : sm_n xo (nI (fa f)).toNatClampNeg = nI 17 := by rw [ci, sm_nap, hx]
    have eA : nI f * 16 + sm_n (sm_ar tk) (nI (fa f)).toNatClampNeg = nI (f * 16 + tk (fa f) / 100) := by rw [ci, sm_nap, sm_arap, sm_mu16, nI_add]
    have eT1 : nI (f * 16 + 8 + h) - 1 = nI (f * 16 + 8 + (h - 1)) := by rw [sm_sb1 (by omega)]; congr 1; omega
    have vT1 : vp_in (nI (f * 16 + 8 + h) - 1) 128 := by rw [eT1]; exact vp_in_nI (by omega) (by decide)
    have cT1 : (nI (f * 16 + 8 + h) - 1).toNatClampNeg = f * 16 + 8 + (h - 1) := by rw [eT1]; exact nI_clamp (by omega)
    have eT2 : nI (f * 16 + 8 + h) - 2 = nI (f * 16 + 8 + (h - 2)) := by rw [sm_sb2 (by omega)]; congr 1; omega
    have vT2 : vp_in (nI (f * 16 + 8 + h) - 2) 128 := by rw [eT2]; exact vp_in_nI (by omega) (by decide)
    have cT2 : (nI (f * 16 + 8 + h) - 2).toNatClampNeg = f * 16 + 8 + (h - 2) := by rw [eT2]; exact nI_clamp (by omega)
    exact nm_r (e' := nI f) (nI_pred f) (br_t (nI_pos' (by omega)) (And.intro v8 (nm_r (e' := nI (fa f)) (by rw [c8, sm_nap]) (And.intro vi (nm_r (e' := nI 17) eo (And.intro vi (nm_r (e' := nI (f * 16 + 8 + h)) (by rw [ci, sm_nap, hxh, sm_mu16, sm_ad8, nI_add]) (br_t (by decide) (br_t (by decide) (br_f (by decide) (br_t (by decide) (br_f (by decide) (br_f (by decide) (br_f (by decide) (And.intro vT2 (nm_r (e' := 0) (by rw [cT2, ea]) (br_t (by decide) hp)))))))))))))))))
theorem sm_xs14 (h8 : f < 8) (hi : fa f < nt) (n160 : nt ≤ 160) (hxh : xh (fa f) = h) (hh8 : h ≤ 8) (hx : xo (fa f) = 14) (hh1 : 1 ≤ h) (ha : tk (fa f) / 100 < 8) (hp : post (xle, xpe, nI cp, nI lm, sta, nI np, opn, nI nt, xch, xck, xbc, nI (f + 1), nI sb, nI us, xcb, xcc, col, nI bo, nI oc, res, sm_n pm, sm_n vs, sm_n mk, sm_k gl, sm_n fi, sm_n tk, sm_n xo, sm_n (sm_ar tk), sm_n xj, sm_n ow, sm_n xh, sm_n xk, sm_n xl, xbk, xbp, xbh, sm_n fp, sm_n (sm_u fa f (fa f + 1)), upd sl (f * 16 + tk (fa f) / 100) (sl (f * 16 + 8 + (h - 1))), cn, cl, cr, sm_n cb, fw, ou)) : wpX_step post (xle, xpe, nI cp, nI lm, sta, nI np, opn, nI nt, xch, xck, xbc, nI (f + 1), nI sb, nI us, xcb, xcc, col, nI bo, nI oc, res, sm_n pm, sm_n vs, sm_n mk, sm_k gl, sm_n fi, sm_n tk, sm_n xo, sm_n (sm_ar tk), sm_n xj, sm_n ow, sm_n xh, sm_n xk, sm_n xl, xbk, xbp, xbh, sm_n fp, sm_n fa, sl, cn, cl, cr, sm_n cb, fw, ou) := by
  have v8 : vp_in (nI f) 8 := vp_in_nI h8 (by decide)
  have c8 : (nI f).toNatClampNeg = f := nI_clamp (by omega)
  have vi : vp_in (nI (fa f)) 160 := vp_in_nI (by omega) (by decide)
  have ci : (nI (fa f)).toNatClampNeg = fa f := nI_clamp (by omega)
  have eo : sm_n xo (nI (fa f)).toNatClampNeg = nI 14 := by rw [ci, sm_nap, hx]
  have eA : nI f * 16 + sm_n (sm_ar tk) (nI (fa f)).toNatClampNeg = nI (f * 16 + tk (fa f) / 100) := by rw [ci, sm_nap, sm_arap, sm_mu16, nI_add]
  have eT1 : nI (f * 16 + 8 + h) - 1 = nI (f * 16 + 8 + (h - 1)) := by rw [sm_sb1 (by omega)]; congr 1; omega
  have vT1 : vp_in (nI (f * 16 + 8 + h) - 1) 128 := by rw [eT1]; exact vp_in_nI (by omega) (by decide)
  have cT1 : (nI (f * 16 + 8 + h) - 1).toNatClampNeg = f * 16 + 8 + (h - 1) := by rw [eT1]; exact nI_clamp (by omega)
  exact nm_r (e' := nI f) (nI_pred f) (br_t (nI_pos' (by omega)) (And.intro v8 (nm_r (e' := nI (fa f)) (by rw [c8, sm_nap]) (And.intro vi (nm_r (e' := nI 14) eo (And.intro vi (nm_r (e' := nI (f * 16 + 8 + h)) (by rw [ci, sm_nap, hxh, sm_mu16, sm_ad8, nI_add]) (br_t (by decide) (br_t (by decide) (br_f (by decide) (br_t (by decide) (br_f (by decide) (br_t (by decide) (And.intro vi (And.intro vT1 (And.intro (by rw [eA]; exact vp_in_nI (by omega) (by decide)) (nm_r (e' := upd sl (f * 16 + tk (fa f) / 100) (sl (f * 16 + 8 + (h - 1)))) (by rw [eA, cT1, nI_clamp (show f * 16 + tk (fa f) / 100 < 2 ^ 31 by omega)]) (And.intro v8 (nm_r (e' := sm_n (sm_u fa f (fa f + 1))) (by rw [c8, nI_1, sm_nu]) hp)))))))))))))))))))
theorem sm_xs18 (h8 : f < 8) (hi : fa f < nt) (n160 : nt ≤ 160) (hxh : xh (fa f) = h) (hh8 : h ≤ 8) (hx : xo (fa f) = 18) (hh1 : 1 ≤ h) (ho : oc < 32) (hp : post (xle, xpe, nI cp, nI lm, sta, nI np, opn, nI nt, xch, xck, xbc, nI (f + 1), nI sb, nI us, xcb, xcc, col, nI bo, nI (oc + 1), res, sm_n pm, sm_n vs, sm_n mk, sm_k gl, sm_n fi, sm_n tk, sm_n xo, sm_n (sm_ar tk), sm_n xj, sm_n ow, sm_n xh, sm_n xk, sm_n xl, xbk, xbp, xbh, sm_n fp, sm_n (sm_u fa f (fa f + 1)), sl, cn, cl, cr, sm_n cb, fw, upd ou oc (sl (f * 16 + 8 + (h - 1))))) : wpX_step post (xle, xpe, nI cp, nI lm, sta, nI np, opn, nI nt, xch, xck, xbc, nI (f + 1), nI sb, nI us, xcb, xcc, col, nI bo, nI oc, res, sm_n pm, sm_n vs, sm_n mk, sm_k gl, sm_n fi, sm_n tk, sm_n xo, sm_n (sm_ar tk), sm_n xj, sm_n ow, sm_n xh, sm_n xk, sm_n xl, xbk, xbp, xbh, sm_n fp, sm_n fa, sl, cn, cl, cr, sm_n cb, fw, ou) := by
  have v8 : vp_in (nI f) 8 := vp_in_nI h8 (by decide)
  have c8 : (nI f).toNatClampNeg = f := nI_clamp (by omega)
  have vi : vp_in (nI (fa f)) 160 := vp_in_nI (by omega) (by decide)
  have ci : (nI (fa f)).toNatClampNeg = fa f := nI_clamp (by omega)
  have eo : sm_n xo (nI (fa f)).toNatClampNeg = nI 18 := by rw [ci, sm_nap, hx]
  have eA : nI f * 16 + sm_n (sm_ar tk) (nI (fa f)).toNatClampNeg = nI (f * 16 + tk (fa f) / 100) := by rw [ci, sm_nap, sm_arap, sm_mu16, nI_add]
  have eT1 : nI (f * 16 + 8 + h) - 1 = nI (f * 16 + 8 + (h - 1)) := by rw [sm_sb1 (by omega)]; congr 1; omega
  have vT1 : vp_in (nI (f * 16 + 8 + h) - 1) 128 := by rw [eT1]; exact vp_in_nI (by omega) (by decide)
  have cT1 : (nI (f * 16 + 8 + h) - 1).toNatClampNeg = f * 16 + 8 + (h - 1) := by rw [eT1]; exact nI_clamp (by omega)
  exact nm_r (e' := nI f) (nI_pred f) (br_t (nI_pos' (by omega)) (And.intro v8 (nm_r (e' := nI (fa f)) (by rw [c8, sm_nap]) (And.intro vi (nm_r (e' := nI 18) eo (And.intro vi (nm_r (e' := nI (f * 16 + 8 + h)) (by rw [ci, sm_nap, hxh, sm_mu16, sm_ad8, nI_add]) (br_t (by decide) (br_t (by decide) (br_f (by decide) (br_t (by decide) (br_f (by decide) (br_f (by decide) (br_t (by decide) (br_t (by decide) (br_t (nI_lt (b := 32) ho (by decide)) (And.intro vT1 (And.intro (vp_in_nI ho (by decide)) (nm_r (e' := upd ou oc (sl (f * 16 + 8 + (h - 1)))) (by rw [cT1, nI_clamp (show oc < 2 ^ 31 by omega)]) (nm_r (nI_1 oc) (And.intro v8 (nm_r (e' := sm_n (sm_u fa f (fa f + 1))) (by rw [c8, nI_1, sm_nu]) hp))))))))))))))))))))))
theorem sm_xsP (h8 : f < 8) (hi : fa f < nt) (n160 : nt ≤ 160) (hxh : xh (fa f) = h) (hh8 : h ≤ 8) (hx : xo (fa f) = 18) (ho : oc = 32) (hp : post (xle, xpe, nI cp, nI lm, 7, nI np, opn, nI nt, xch, xck, xbc, nI (f + 1), nI sb, nI us, xcb, xcc, col, nI bo, nI oc, res, sm_n pm, sm_n vs, sm_n mk, sm_k gl, sm_n fi, sm_n tk, sm_n xo, sm_n (sm_ar tk), sm_n xj, sm_n ow, sm_n xh, sm_n xk, sm_n xl, xbk, xbp, xbh, sm_n fp, sm_n fa, sl, cn, cl, cr, sm_n cb, fw, ou)) : wpX_step post (xle, xpe, nI cp, nI lm, sta, nI np, opn, nI nt, xch, xck, xbc, nI (f + 1), nI sb, nI us, xcb, xcc, col, nI bo, nI oc, res, sm_n pm, sm_n vs, sm_n mk, sm_k gl, sm_n fi, sm_n tk, sm_n xo, sm_n (sm_ar tk), sm_n xj, sm_n ow, sm_n xh, sm_n xk, sm_n xl, xbk, xbp, xbh, sm_n fp, sm_n fa, sl, cn, cl, cr, sm_n cb, fw, ou) := by
  have v8 : vp_in (nI f) 8 := vp_in_nI h8 (by decide)
  have c8 : (nI f).toNatClampNeg = f := nI_clamp (by omega)
  have vi : vp_in (nI (fa f)) 160 := vp_in_nI (by omega) (by decide)
  have ci : (nI (fa f)).toNatClampNeg = fa f := nI_clamp (by omega)
  have eo : sm_n xo (nI (fa f)).toNatClampNeg = nI 18 := by rw [ci, sm_nap, hx]
  have eA : nI f * 16 + sm_n (sm_ar tk) (nI (fa f)).toNatClampNeg = nI (f * 16 + tk (fa f) / 100) := by rw [ci, sm_nap, sm_arap, sm_mu16, nI_add]
  have vT : h < 8 → vp_in (nI (f * 16 + 8 + h)) 128 := fun z => vp_in_nI (by omega) (by decide)
  have cT : (nI (f * 16 + 8 + h)).toNatClampNeg = f * 16 + 8 + h := nI_clamp (by omega)
  exact nm_r (e' := nI f) (nI_pred f) (br_t (nI_pos' (by omega)) (And.intro v8 (nm_r (e' := nI (fa f)) (by rw [c8, sm_nap]) (And.intro vi (nm_r (e' := nI 18) eo (And.intro vi (nm_r (e' := nI (f * 16 + 8 + h)) (by rw [ci, sm_nap, hxh, sm_mu16, sm_ad8, nI_add]) (br_t (by decide) (br_t (by decide) (br_f (by decide) (br_t (by decide) (br_f (by decide) (br_f (by decide) (br_t (by decide) (br_t (by decide) (br_f (nI_nlt (b := 32) (by omega) (by omega)) hp))))))))))))))))
theorem sm_xs19 (h8 : f < 8) (hi : fa f < nt) (n160 : nt ≤ 160) (hxh : xh (fa f) = h) (hh8 : h ≤ 8) (hx : xo (fa f) = 19) (hp : post (xle, xpe, nI cp, nI lm, sta, nI np, opn, nI nt, xch, xck, xbc, nI (f + 1), nI sb, nI us, xcb, xcc, col, nI bo, nI oc, res, sm_n pm, sm_n vs, sm_n mk, sm_k gl, sm_n fi, sm_n tk, sm_n xo, sm_n (sm_ar tk), sm_n xj, sm_n ow, sm_n xh, sm_n xk, sm_n xl, xbk, xbp, xbh, sm_n fp, sm_n (sm_u fa f (fa f + 1)), sl, cn, cl, cr, sm_n cb, fw, ou)) : wpX_step post (xle, xpe, nI cp, nI lm, sta, nI np, opn, nI nt, xch, xck, xbc, nI (f + 1), nI sb, nI us, xcb, xcc, col, nI bo, nI oc, res, sm_n pm, sm_n vs, sm_n mk, sm_k gl, sm_n fi, sm_n tk, sm_n xo, sm_n (sm_ar tk), sm_n xj, sm_n ow, sm_n xh, sm_n xk, sm_n xl, xbk, xbp, xbh, sm_n fp, sm_n fa, sl, cn, cl, cr, sm_n cb, fw, ou) := by
  have v8 : vp_in (nI f) 8 := vp_in_nI h8 (by decide)
  have c8 : (nI f).toNatClampNeg = f := nI_clamp (by omega)
  have vi : vp_in (nI (fa f)) 160 := vp_in_nI (by omega) (by decide)
  have ci : (nI (fa f)).toNatClampNeg = fa f := nI_clamp (by omega)
  have eo : sm_n xo (nI (fa f)).toNatClampNeg = nI 19 := by rw [ci, sm_nap, hx]
  have eA : nI f * 16 + sm_n (sm_ar tk) (nI (fa f)).toNatClampNeg = nI (f * 16 + tk (fa f) / 100) := by rw [ci, sm_nap, sm_arap, sm_mu16, nI_add]
  have vT : h < 8 → vp_in (nI (f * 16 + 8 + h)) 128 := fun z => vp_in_nI (by omega) (by decide)
  have cT : (nI (f * 16 + 8 + h)).toNatClampNeg = f * 16 + 8 + h := nI_clamp (by omega)
  exact nm_r (e' := nI f) (nI_pred f) (br_t (nI_pos' (by omega)) (And.intro v8 (nm_r (e' := nI (fa f)) (by rw [c8, sm_nap]) (And.intro vi (nm_r (e' := nI 19) eo (And.intro vi (nm_r (e' := nI (f * 16 + 8 + h)) (by rw [ci, sm_nap, hxh, sm_mu16, sm_ad8, nI_add]) (br_t (by decide) (br_t (by decide) (br_f (by decide) (br_t (by decide) (br_f (by decide) (br_f (by decide) (br_t (by decide) (br_f (by decide) (br_f (by decide) (br_f (by decide) (And.intro vi (nm_r (e' := nI 19) eo (br_f (by decide) (br_f (by decide) (br_f (by decide) (br_f (by decide) (br_t rfl (And.intro v8 (nm_r (e' := sm_n (sm_u fa f (fa f + 1))) (by rw [c8, nI_1, sm_nu]) hp))))))))))))))))))))))))))
theorem sm_xs22 (h8 : f < 8) (hi : fa f < nt) (n160 : nt ≤ 160) (hxh : xh (fa f) = h) (hh8 : h ≤ 8) (hx : xo (fa f) = 22) (hp : post (xle, xpe, nI cp, nI lm, sta, nI np, opn, nI nt, xch, xck, xbc, nI (f + 1), nI sb, nI us, xcb, xcc, col, nI bo, nI oc, res, sm_n pm, sm_n vs, sm_n mk, sm_k gl, sm_n fi, sm_n tk, sm_n xo, sm_n (sm_ar tk), sm_n xj, sm_n ow, sm_n xh, sm_n xk, sm_n xl, xbk, xbp, xbh, sm_n fp, sm_n (sm_u fa f (fa f + 1)), sl, cn, cl, cr, sm_n cb, fw, ou)) : wpX_step post (xle, xpe, nI cp, nI lm, sta, nI np, opn, nI nt, xch, xck, xbc, nI (f + 1), nI sb, nI us, xcb, xcc, col, nI bo, nI oc, res, sm_n pm, sm_n vs, sm_n mk, sm_k gl, sm_n fi, sm_n tk, sm_n xo, sm_n (sm_ar tk), sm_n xj, sm_n ow, sm_n xh, sm_n xk, sm_n xl, xbk, xbp, xbh, sm_n fp, sm_n fa, sl, cn, cl, cr, sm_n cb, fw, ou) := by
  have v8 : vp_in (nI f) 8 := vp_in_nI h8 (by decide)
  have c8 : (nI f).toNatClampNeg = f := nI_clamp (by omega)
  have vi : vp_in (nI (fa f)) 160 := vp_in_nI (by omega) (by decide)
  have ci : (nI (fa f)).toNatClampNeg = fa f := nI_clamp (by omega)
  have eo : sm_n xo (nI (fa f)).toNatClampNeg = nI 22 := by rw [ci, sm_nap, hx]
  have eA : nI f * 16 + sm_n (sm_ar tk) (nI (fa f)).toNatClampNeg = nI (f * 16 + tk (fa f) / 100) := by rw [ci, sm_nap, sm_arap, sm_mu16, nI_add]
  have vT : h < 8 → vp_in (nI (f * 16 + 8 + h)) 128 := fun z => vp_in_nI (by omega) (by decide)
  have cT : (nI (f * 16 + 8 + h)).toNatClampNeg = f * 16 + 8 + h := nI_clamp (by omega)
  exact nm_r (e' := nI f) (nI_pred f) (br_t (nI_pos' (by omega)) (And.intro v8 (nm_r (e' := nI (fa f)) (by rw [c8, sm_nap]) (And.intro vi (nm_r (e' := nI 22) eo (And.intro vi (nm_r (e' := nI (f * 16 + 8 + h)) (by rw [ci, sm_nap, hxh, sm_mu16, sm_ad8, nI_add]) (br_t (by decide) (br_t (by decide) (br_f (by decide) (br_t (by decide) (br_f (by decide) (br_f (by decide) (br_t (by decide) (br_f (by decide) (br_f (by decide) (br_f (by decide) (And.intro vi (nm_r (e' := nI 22) eo (br_f (by decide) (br_f (by decide) (br_f (by decide) (br_f (by decide) (br_t rfl (And.intro v8 (nm_r (e' := sm_n (sm_u fa f (fa f + 1))) (by rw [c8, nI_1, sm_nu]) hp))))))))))))))))))))))))))
theorem sm_xs24 (h8 : f < 8) (hi : fa f < nt) (n160 : nt ≤ 160) (hxh : xh (fa f) = h) (hh8 : h ≤ 8) (hx : xo (fa f) = 24) (hp : post (xle, xpe, nI cp, nI lm, sta, nI np, opn, nI nt, xch, xck, xbc, nI (f + 1), nI sb, nI us, xcb, xcc, col, nI bo, nI oc, res, sm_n pm, sm_n vs, sm_n mk, sm_k gl, sm_n fi, sm_n tk, sm_n xo, sm_n (sm_ar tk), sm_n xj, sm_n ow, sm_n xh, sm_n xk, sm_n xl, xbk, xbp, xbh, sm_n fp, sm_n (sm_u fa f (fa f + 1)), sl, cn, cl, cr, sm_n cb, fw, ou)) : wpX_step post (xle, xpe, nI cp, nI lm, sta, nI np, opn, nI nt, xch, xck, xbc, nI (f + 1), nI sb, nI us, xcb, xcc, col, nI bo, nI oc, res, sm_n pm, sm_n vs, sm_n mk, sm_k gl, sm_n fi, sm_n tk, sm_n xo, sm_n (sm_ar tk), sm_n xj, sm_n ow, sm_n xh, sm_n xk, sm_n xl, xbk, xbp, xbh, sm_n fp, sm_n fa, sl, cn, cl, cr, sm_n cb, fw, ou) := by
  have v8 : vp_in (nI f) 8 := vp_in_nI h8 (by decide)
  have c8 : (nI f).toNatClampNeg = f := nI_clamp (by omega)
  have vi : vp_in (nI (fa f)) 160 := vp_in_nI (by omega) (by decide)
  have ci : (nI (fa f)).toNatClampNeg = fa f := nI_clamp (by omega)
  have eo : sm_n xo (nI (fa f)).toNatClampNeg = nI 24 := by rw [ci, sm_nap, hx]
  have eA : nI f * 16 + sm_n (sm_ar tk) (nI (fa f)).toNatClampNeg = nI (f * 16 + tk (fa f) / 100) := by rw [ci, sm_nap, sm_arap, sm_mu16, nI_add]
  have vT : h < 8 → vp_in (nI (f * 16 + 8 + h)) 128 := fun z => vp_in_nI (by omega) (by decide)
  have cT : (nI (f * 16 + 8 + h)).toNatClampNeg = f * 16 + 8 + h := nI_clamp (by omega)
  exact nm_r (e' := nI f) (nI_pred f) (br_t (nI_pos' (by omega)) (And.intro v8 (nm_r (e' := nI (fa f)) (by rw [c8, sm_nap]) (And.intro vi (nm_r (e' := nI 24) eo (And.intro vi (nm_r (e' := nI (f * 16 + 8 + h)) (by rw [ci, sm_nap, hxh, sm_mu16, sm_ad8, nI_add]) (br_t (by decide) (br_t (by decide) (br_f (by decide) (br_t (by decide) (br_f (by decide) (br_f (by decide) (br_t (by decide) (br_f (by decide) (br_f (by decide) (br_f (by decide) (And.intro vi (nm_r (e' := nI 24) eo (br_f (by decide) (br_f (by decide) (br_f (by decide) (br_f (by decide) (br_t rfl (And.intro v8 (nm_r (e' := sm_n (sm_u fa f (fa f + 1))) (by rw [c8, nI_1, sm_nu]) hp))))))))))))))))))))))))))
theorem sm_xs21 (h8 : f < 8) (hi : fa f < nt) (n160 : nt ≤ 160) (hxh : xh (fa f) = h) (hh8 : h ≤ 8) (hx : xo (fa f) = 21) (hp : post (xle, xpe, nI cp, nI lm, sta, nI np, opn, nI nt, xch, xck, xbc, nI (f + 1), nI sb, nI us, xcb, xcc, col, nI bo, nI oc, res, sm_n pm, sm_n vs, sm_n mk, sm_k gl, sm_n fi, sm_n tk, sm_n xo, sm_n (sm_ar tk), sm_n xj, sm_n ow, sm_n xh, sm_n xk, sm_n xl, xbk, xbp, xbh, sm_n fp, sm_n (sm_u fa f (xj (fa f))), sl, cn, cl, cr, sm_n cb, fw, ou)) : wpX_step post (xle, xpe, nI cp, nI lm, sta, nI np, opn, nI nt, xch, xck, xbc, nI (f + 1), nI sb, nI us, xcb, xcc, col, nI bo, nI oc, res, sm_n pm, sm_n vs, sm_n mk, sm_k gl, sm_n fi, sm_n tk, sm_n xo, sm_n (sm_ar tk), sm_n xj, sm_n ow, sm_n xh, sm_n xk, sm_n xl, xbk, xbp, xbh, sm_n fp, sm_n fa, sl, cn, cl, cr, sm_n cb, fw, ou) := by
  have v8 : vp_in (nI f) 8 := vp_in_nI h8 (by decide)
  have c8 : (nI f).toNatClampNeg = f := nI_clamp (by omega)
  have vi : vp_in (nI (fa f)) 160 := vp_in_nI (by omega) (by decide)
  have ci : (nI (fa f)).toNatClampNeg = fa f := nI_clamp (by omega)
  have eo : sm_n xo (nI (fa f)).toNatClampNeg = nI 21 := by rw [ci, sm_nap, hx]
  have eA : nI f * 16 + sm_n (sm_ar tk) (nI (fa f)).toNatClampNeg = nI (f * 16 + tk (fa f) / 100) := by rw [ci, sm_nap, sm_arap, sm_mu16, nI_add]
  have vT : h < 8 → vp_in (nI (f * 16 + 8 + h)) 128 := fun z => vp_in_nI (by omega) (by decide)
  have cT : (nI (f * 16 + 8 + h)).toNatClampNeg = f * 16 + 8 + h := nI_clamp (by omega)
  exact nm_r (e' := nI f) (nI_pred f) (br_t (nI_pos' (by omega)) (And.intro v8 (nm_r (e' := nI (fa f)) (by rw [c8, sm_nap]) (And.intro vi (nm_r (e' := nI 21) eo (And.intro vi (nm_r (e' := nI (f * 16 + 8 + h)) (by rw [ci, sm_nap, hxh, sm_mu16, sm_ad8, nI_add]) (br_t (by decide) (br_t (by decide) (br_f (by decide) (br_t (by decide) (br_f (by decide) (br_f (by decide) (br_t (by decide) (br_f (by decide) (br_f (by decide) (br_f (by decide) (And.intro vi (nm_r (e' := nI 21) eo (br_t (by decide) (br_f (by decide) (br_f (by decide) (br_f (by decide) (And.intro vi (And.intro v8 (nm_r (e' := sm_n (sm_u fa f (xj (fa f)))) (by rw [c8, ci, sm_nap, sm_nu]) hp))))))))))))))))))))))))))
theorem sm_xs26 (h8 : f < 8) (hi : fa f < nt) (n160 : nt ≤ 160) (hxh : xh (fa f) = h) (hh8 : h ≤ 8) (hx : xo (fa f) = 26) (hp : post (xle, xpe, nI cp, nI lm, sta, nI np, opn, nI nt, xch, xck, xbc, nI (f + 1), nI sb, nI us, xcb, xcc, col, nI bo, nI oc, res, sm_n pm, sm_n vs, sm_n mk, sm_k gl, sm_n fi, sm_n tk, sm_n xo, sm_n (sm_ar tk), sm_n xj, sm_n ow, sm_n xh, sm_n xk, sm_n xl, xbk, xbp, xbh, sm_n fp, sm_n (sm_u fa f (xj (fa f))), sl, cn, cl, cr, sm_n cb, fw, ou)) : wpX_step post (xle, xpe, nI cp, nI lm, sta, nI np, opn, nI nt, xch, xck, xbc, nI (f + 1), nI sb, nI us, xcb, xcc, col, nI bo, nI oc, res, sm_n pm, sm_n vs, sm_n mk, sm_k gl, sm_n fi, sm_n tk, sm_n xo, sm_n (sm_ar tk), sm_n xj, sm_n ow, sm_n xh, sm_n xk, sm_n xl, xbk, xbp, xbh, sm_n fp, sm_n fa, sl, cn, cl, cr, sm_n cb, fw, ou) := by
  have v8 : vp_in (nI f) 8 := vp_in_nI h8 (by decide)
  have c8 : (nI f).toNatClampNeg = f := nI_clamp (by omega)
  have vi : vp_in (nI (fa f)) 160 := vp_in_nI (by omega) (by decide)
  have ci : (nI (fa f)).toNatClampNeg = fa f := nI_clamp (by omega)
  have eo : sm_n xo (nI (fa f)).toNatClampNeg = nI 26 := by rw [ci, sm_nap, hx]
  have eA : nI f * 16 + sm_n (sm_ar tk) (nI (fa f)).toNatClampNeg = nI (f * 16 + tk (fa f) / 100) := by rw [ci, sm_nap, sm_arap, sm_mu16, nI_add]
  have vT : h < 8 → vp_in (nI (f * 16 + 8 + h)) 128 := fun z => vp_in_nI (by omega) (by decide)
  have cT : (nI (f * 16 + 8 + h)).toNatClampNeg = f * 16 + 8 + h := nI_clamp (by omega)
  exact nm_r (e' := nI f) (nI_pred f) (br_t (nI_pos' (by omega)) (And.intro v8 (nm_r (e' := nI (fa f)) (by rw [c8, sm_nap]) (And.intro vi (nm_r (e' := nI 26) eo (And.intro vi (nm_r (e' := nI (f * 16 + 8 + h)) (by rw [ci, sm_nap, hxh, sm_mu16, sm_ad8, nI_add]) (br_t (by decide) (br_t (by decide) (br_f (by decide) (br_t (by decide) (br_f (by decide) (br_f (by decide) (br_t (by decide) (br_f (by decide) (br_f (by decide) (br_f (by decide) (And.intro vi (nm_r (e' := nI 26) eo (br_f (by decide) (br_t (by decide) (br_f (by decide) (br_f (by decide) (br_f (by decide) (And.intro vi (And.intro v8 (nm_r (e' := sm_n (sm_u fa f (xj (fa f)))) (by rw [c8, ci, sm_nap, sm_nu]) hp)))))))))))))))))))))))))))
theorem sm_xs20z (h8 : f < 8) (hi : fa f < nt) (n160 : nt ≤ 160) (hxh : xh (fa f) = h) (hh8 : h ≤ 8) (hx : xo (fa f) = 20) (hh1 : 1 ≤ h) (ez : sl (f * 16 + 8 + (h - 1)) = 0) (hp : post (xle, xpe, nI cp, nI lm, sta, nI np, opn, nI nt, xch, xck, xbc, nI (f + 1), nI sb, nI us, xcb, xcc, col, nI bo, nI oc, res, sm_n pm, sm_n vs, sm_n mk, sm_k gl, sm_n fi, sm_n tk, sm_n xo, sm_n (sm_ar tk), sm_n xj, sm_n ow, sm_n xh, sm_n xk, sm_n xl, xbk, xbp, xbh, sm_n fp, sm_n (sm_u fa f (xj (fa f))), sl, cn, cl, cr, sm_n cb, fw, ou)) : wpX_step post (xle, xpe, nI cp, nI lm, sta, nI np, opn, nI nt, xch, xck, xbc, nI (f + 1), nI sb, nI us, xcb, xcc, col, nI bo, nI oc, res, sm_n pm, sm_n vs, sm_n mk, sm_k gl, sm_n fi, sm_n tk, sm_n xo, sm_n (sm_ar tk), sm_n xj, sm_n ow, sm_n xh, sm_n xk, sm_n xl, xbk, xbp, xbh, sm_n fp, sm_n fa, sl, cn, cl, cr, sm_n cb, fw, ou) := by
  have v8 : vp_in (nI f) 8 := vp_in_nI h8 (by decide)
  have c8 : (nI f).toNatClampNeg = f := nI_clamp (by omega)
  have vi : vp_in (nI (fa f)) 160 := vp_in_nI (by omega) (by decide)
  have ci : (nI (fa f)).toNatClampNeg = fa f := nI_clamp (by omega)
  have eo : sm_n xo (nI (fa f)).toNatClampNeg = nI 20 := by rw [ci, sm_nap, hx]
  have eA : nI f * 16 + sm_n (sm_ar tk) (nI (fa f)).toNatClampNeg = nI (f * 16 + tk (fa f) / 100) := by rw [ci, sm_nap, sm_arap, sm_mu16, nI_add]
  have eT1 : nI (f * 16 + 8 + h) - 1 = nI (f * 16 + 8 + (h - 1)) := by rw [sm_sb1 (by omega)]; congr 1; omega
  have vT1 : vp_in (nI (f * 16 + 8 + h) - 1) 128 := by rw [eT1]; exact vp_in_nI (by omega) (by decide)
  have cT1 : (nI (f * 16 + 8 + h) - 1).toNatClampNeg = f * 16 + 8 + (h - 1) := by rw [eT1]; exact nI_clamp (by omega)
  exact nm_r (e' := nI f) (nI_pred f) (br_t (nI_pos' (by omega)) (And.intro v8 (nm_r (e' := nI (fa f)) (by rw [c8, sm_nap]) (And.intro vi (nm_r (e' := nI 20) eo (And.intro vi (nm_r (e' := nI (f * 16 + 8 + h)) (by rw [ci, sm_nap, hxh, sm_mu16, sm_ad8, nI_add]) (br_t (by decide) (br_t (by decide) (br_f (by decide) (br_t (by decide) (br_f (by decide) (br_f (by decide) (br_t (by decide) (br_f (by decide) (br_f (by decide) (br_f (by decide) (And.intro vi (nm_r (e' := nI 20) eo (br_f (by decide) (br_f (by decide) (br_t (by decide) (And.intro vT1 (br_t (by rw [cT1]; exact ez) (br_f (by decide) (And.intro vi (And.intro v8 (nm_r (e' := sm_n (sm_u fa f (xj (fa f)))) (by rw [c8, ci, sm_nap, sm_nu]) hp))))))))))))))))))))))))))))
theorem sm_xs20n (h8 : f < 8) (hi : fa f < nt) (n160 : nt ≤ 160) (hxh : xh (fa f) = h) (hh8 : h ≤ 8) (hx : xo (fa f) = 20) (hh1 : 1 ≤ h) (ez : sl (f * 16 + 8 + (h - 1)) ≠ 0) (hp : post (xle, xpe, nI cp, nI lm, sta, nI np, opn, nI nt, xch, xck, xbc, nI (f + 1), nI sb, nI us, xcb, xcc, col, nI bo, nI oc, res, sm_n pm, sm_n vs, sm_n mk, sm_k gl, sm_n fi, sm_n tk, sm_n xo, sm_n (sm_ar tk), sm_n xj, sm_n ow, sm_n xh, sm_n xk, sm_n xl, xbk, xbp, xbh, sm_n fp, sm_n (sm_u fa f (fa f + 1)), sl, cn, cl, cr, sm_n cb, fw, ou)) : wpX_step post (xle, xpe, nI cp, nI lm, sta, nI np, opn, nI nt, xch, xck, xbc, nI (f + 1), nI sb, nI us, xcb, xcc, col, nI bo, nI oc, res, sm_n pm, sm_n vs, sm_n mk, sm_k gl, sm_n fi, sm_n tk, sm_n xo, sm_n (sm_ar tk), sm_n xj, sm_n ow, sm_n xh, sm_n xk, sm_n xl, xbk, xbp, xbh, sm_n fp, sm_n fa, sl, cn, cl, cr, sm_n cb, fw, ou) := by
  have v8 : vp_in (nI f) 8 := vp_in_nI h8 (by decide)
  have c8 : (nI f).toNatClampNeg = f := nI_clamp (by omega)
  have vi : vp_in (nI (fa f)) 160 := vp_in_nI (by omega) (by decide)
  have ci : (nI (fa f)).toNatClampNeg = fa f := nI_clamp (by omega)
  have eo : sm_n xo (nI (fa f)).toNatClampNeg = nI 20 := by rw [ci, sm_nap, hx]
  have eA : nI f * 16 + sm_n (sm_ar tk) (nI (fa f)).toNatClampNeg = nI (f * 16 + tk (fa f) / 100) := by rw [ci, sm_nap, sm_arap, sm_mu16, nI_add]
  have eT1 : nI (f * 16 + 8 + h) - 1 = nI (f * 16 + 8 + (h - 1)) := by rw [sm_sb1 (by omega)]; congr 1; omega
  have vT1 : vp_in (nI (f * 16 + 8 + h) - 1) 128 := by rw [eT1]; exact vp_in_nI (by omega) (by decide)
  have cT1 : (nI (f * 16 + 8 + h) - 1).toNatClampNeg = f * 16 + 8 + (h - 1) := by rw [eT1]; exact nI_clamp (by omega)
  exact nm_r (e' := nI f) (nI_pred f) (br_t (nI_pos' (by omega)) (And.intro v8 (nm_r (e' := nI (fa f)) (by rw [c8, sm_nap]) (And.intro vi (nm_r (e' := nI 20) eo (And.intro vi (nm_r (e' := nI (f * 16 + 8 + h)) (by rw [ci, sm_nap, hxh, sm_mu16, sm_ad8, nI_add]) (br_t (by decide) (br_t (by decide) (br_f (by decide) (br_t (by decide) (br_f (by decide) (br_f (by decide) (br_t (by decide) (br_f (by decide) (br_f (by decide) (br_f (by decide) (And.intro vi (nm_r (e' := nI 20) eo (br_f (by decide) (br_f (by decide) (br_t (by decide) (And.intro vT1 (br_f (by rw [cT1]; exact ez) (br_t rfl (And.intro v8 (nm_r (e' := sm_n (sm_u fa f (fa f + 1))) (by rw [c8, nI_1, sm_nu]) hp)))))))))))))))))))))))))))
theorem sm_xs23z (h8 : f < 8) (hi : fa f < nt) (n160 : nt ≤ 160) (hxh : xh (fa f) = h) (hh8 : h ≤ 8) (hx : xo (fa f) = 23) (hh1 : 1 ≤ h) (ez : sl (f * 16 + 8 + (h - 1)) = 0) (hp : post (xle, xpe, nI cp, nI lm, sta, nI np, opn, nI nt, xch, xck, xbc, nI (f + 1), nI sb, nI us, xcb, xcc, col, nI bo, nI oc, res, sm_n pm, sm_n vs, sm_n mk, sm_k gl, sm_n fi, sm_n tk, sm_n xo, sm_n (sm_ar tk), sm_n xj, sm_n ow, sm_n xh, sm_n xk, sm_n xl, xbk, xbp, xbh, sm_n fp, sm_n (sm_u fa f (xj (fa f))), sl, cn, cl, cr, sm_n cb, fw, ou)) : wpX_step post (xle, xpe, nI cp, nI lm, sta, nI np, opn, nI nt, xch, xck, xbc, nI (f + 1), nI sb, nI us, xcb, xcc, col, nI bo, nI oc, res, sm_n pm, sm_n vs, sm_n mk, sm_k gl, sm_n fi, sm_n tk, sm_n xo, sm_n (sm_ar tk), sm_n xj, sm_n ow, sm_n xh, sm_n xk, sm_n xl, xbk, xbp, xbh, sm_n fp, sm_n fa, sl, cn, cl, cr, sm_n cb, fw, ou) := by
  have v8 : vp_in (nI f) 8 := vp_in_nI h8 (by decide)
  have c8 : (nI f).toNatClampNeg = f := nI_clamp (by omega)
  have vi : vp_in (nI (fa f)) 160 := vp_in_nI (by omega) (by decide)
  have ci : (nI (fa f)).toNatClampNeg = fa f := nI_clamp (by omega)
  have eo : sm_n xo (nI (fa f)).toNatClampNeg = nI 23 := by rw [ci, sm_nap, hx]
  have eA : nI f * 16 + sm_n (sm_ar tk) (nI (fa f)).toNatClampNeg = nI (f * 16 + tk (fa f) / 100) := by rw [ci, sm_nap, sm_arap, sm_mu16, nI_add]
  have eT1 : nI (f * 16 + 8 + h) - 1 = nI (f * 16 + 8 + (h - 1)) := by rw [sm_sb1 (by omega)]; congr 1; omega
  have vT1 : vp_in (nI (f * 16 + 8 + h) - 1) 128 := by rw [eT1]; exact vp_in_nI (by omega) (by decide)
  have cT1 : (nI (f * 16 + 8 + h) - 1).toNatClampNeg = f * 16 + 8 + (h - 1) := by rw [eT1]; exact nI_clamp (by omega)
  exact nm_r (e' := nI f) (nI_pred f) (br_t (nI_pos' (by omega)) (And.intro v8 (nm_r (e' := nI (fa f)) (by rw [c8, sm_nap]) (And.intro vi (nm_r (e' := nI 23) eo (And.intro vi (nm_r (e' := nI (f * 16 + 8 + h)) (by rw [ci, sm_nap, hxh, sm_mu16, sm_ad8, nI_add]) (br_t (by decide) (br_t (by decide) (br_f (by decide) (br_t (by decide) (br_f (by decide) (br_f (by decide) (br_t (by decide) (br_f (by decide) (br_f (by decide) (br_f (by decide) (And.intro vi (nm_r (e' := nI 23) eo (br_f (by decide) (br_f (by decide) (br_f (by decide) (br_t (by decide) (And.intro vT1 (br_t (by rw [cT1]; exact ez) (br_f (by decide) (And.intro vi (And.intro v8 (nm_r (e' := sm_n (sm_u fa f (xj (fa f)))) (by rw [c8, ci, sm_nap, sm_nu]) hp)))))))))))))))))))))))))))))
theorem sm_xs23n (h8 : f < 8) (hi : fa f < nt) (n160 : nt ≤ 160) (hxh : xh (fa f) = h) (hh8 : h ≤ 8) (hx : xo (fa f) = 23) (hh1 : 1 ≤ h) (ez : sl (f * 16 + 8 + (h - 1)) ≠ 0) (hp : post (xle, xpe, nI cp, nI lm, sta, nI np, opn, nI nt, xch, xck, xbc, nI (f + 1), nI sb, nI us, xcb, xcc, col, nI bo, nI oc, res, sm_n pm, sm_n vs, sm_n mk, sm_k gl, sm_n fi, sm_n tk, sm_n xo, sm_n (sm_ar tk), sm_n xj, sm_n ow, sm_n xh, sm_n xk, sm_n xl, xbk, xbp, xbh, sm_n fp, sm_n (sm_u fa f (fa f + 1)), sl, cn, cl, cr, sm_n cb, fw, ou)) : wpX_step post (xle, xpe, nI cp, nI lm, sta, nI np, opn, nI nt, xch, xck, xbc, nI (f + 1), nI sb, nI us, xcb, xcc, col, nI bo, nI oc, res, sm_n pm, sm_n vs, sm_n mk, sm_k gl, sm_n fi, sm_n tk, sm_n xo, sm_n (sm_ar tk), sm_n xj, sm_n ow, sm_n xh, sm_n xk, sm_n xl, xbk, xbp, xbh, sm_n fp, sm_n fa, sl, cn, cl, cr, sm_n cb, fw, ou) := by
  have v8 : vp_in (nI f) 8 := vp_in_nI h8 (by decide)
  have c8 : (nI f).toNatClampNeg = f := nI_clamp (by omega)
  have vi : vp_in (nI (fa f)) 160 := vp_in_nI (by omega) (by decide)
  have ci : (nI (fa f)).toNatClampNeg = fa f := nI_clamp (by omega)
  have eo : sm_n xo (nI (fa f)).toNatClampNeg = nI 23 := by rw [ci, sm_nap, hx]
  have eA : nI f * 16 + sm_n (sm_ar tk) (nI (fa f)).toNatClampNeg = nI (f * 16 + tk (fa f) / 100) := by rw [ci, sm_nap, sm_arap, sm_mu16, nI_add]
  have eT1 : nI (f * 16 + 8 + h) - 1 = nI (f * 16 + 8 + (h - 1)) := by rw [sm_sb1 (by omega)]; congr 1; omega
  have vT1 : vp_in (nI (f * 16 + 8 + h) - 1) 128 := by rw [eT1]; exact vp_in_nI (by omega) (by decide)
  have cT1 : (nI (f * 16 + 8 + h) - 1).toNatClampNeg = f * 16 + 8 + (h - 1) := by rw [eT1]; exact nI_clamp (by omega)
  exact nm_r (e' := nI f) (nI_pred f) (br_t (nI_pos' (by omega)) (And.intro v8 (nm_r (e' := nI (fa f)) (by rw [c8, sm_nap]) (And.intro vi (nm_r (e' := nI 23) eo (And.intro vi (nm_r (e' := nI (f * 16 + 8 + h)) (by rw [ci, sm_nap, hxh, sm_mu16, sm_ad8, nI_add]) (br_t (by decide) (br_t (by decide) (br_f (by decide) (br_t (by decide) (br_f (by decide) (br_f (by decide) (br_t (by decide) (br_f (by decide) (br_f (by decide) (br_f (by decide) (And.intro vi (nm_r (e' := nI 23) eo (br_f (by decide) (br_f (by decide) (br_f (by decide) (br_t (by decide) (And.intro vT1 (br_f (by rw [cT1]; exact ez) (br_t rfl (And.intro v8 (nm_r (e' := sm_n (sm_u fa f (fa f + 1))) (by rw [c8, nI_1, sm_nu]) hp))))))))))))))))))))))))))))
end
end
section
/-! both sides step together (printed by mk30.py) -/
section
variable {xle xpe sta opn xch xck xbc xcb xcc col res yh yd : Int32} {cp lm np nt fr sb us bo oc : Nat} {pm vs mk fi tk xo xj ow xh xk xl fp fa fh cb : Nat → Nat} {gl : Nat → Bool} {xbk xbp xbh sl cn cl cr fw ou yt yb ys yr lo st he nu lf rg : Nat → Int32} {hh kk dp : Nat → Nat} {pt hd : Nat → Nat → Nat}
variable {f : Nat}
theorem sm_VRinj {a b a' b' : Int32} (hsb : sb ≤ 16) (hu : us ≤ 16) (hcb : ∀ c, c < us → 1 ≤ cb (sb + 1 + c) ∧ cb (sb + 1 + c) ≤ 120) (hi : ∀ c d, c < us → d < us → cb (sb + 1 + c) = cb (sb + 1 + d) → c = d) (h : sm_VR us sb cb a b) (h' : sm_VR us sb cb a' b') : a = a' ↔ b = b' := by
  rcases h with ⟨e1, e2⟩ | ⟨c, c1, c2, c3⟩
  · rcases h' with ⟨d1, d2⟩ | ⟨d, d1, d2, d3⟩
    · rw [e1, e2, d1, d2]
    · have := hcb d d1
      rw [e1, e2, d2, d3]
      exact ⟨fun z => absurd z.symm (nI_ne0 (by omega) (by omega)), fun z => absurd z.symm (nI_ne0 (by omega) (by omega))⟩
  · have hc := hcb c c1
    rcases h' with ⟨d1, d2⟩ | ⟨d, d1, d2, d3⟩
    · rw [c2, c3, d1, d2]
      exact ⟨fun z => absurd z (nI_ne0 (by omega) (by omega)), fun z => absurd z (nI_ne0 (by omega) (by omega))⟩
    · have hd := hcb d d1
      rw [c2, c3, d2, d3]
      constructor
      · intro z; rw [sm_inj hsb (by omega) (by omega) z]
      · intro z
        rw [hi c d c1 d1 ((nI_eq (by omega) (by omega)).mp z)]
theorem sm_hpN {c : Nat} {v : Int32} (H : sm_HP cp us sb bo cb cn cl cr he nu lf rg) (hc : c < us) : sm_HP cp us sb bo cb (upd cn (sb + 1 + c) v) cl cr he (upd nu (cb (sb + 1 + c)) v) lf rg := by
  obtain ⟨p, q1, q2, q3⟩ := H
  refine ⟨p, fun d hd => ?_, q2, q3⟩
  obtain ⟨a1, a2, a3, a4, a5, a6⟩ := q1 d hd
  refine ⟨a1, a2, a3, ?_, a5, a6⟩
  by_cases e : d = c
  · rw [e, pk_us, pk_us]
  · rw [pk_un (fun z => e (q2 d c hd hc z)), pk_un (by omega)]
    exact a4
theorem sm_hpL {c : Nat} {v w : Int32} (H : sm_HP cp us sb bo cb cn cl cr he nu lf rg) (hc : c < us) (hv : sm_VR us sb cb v w) : sm_HP cp us sb bo cb cn (upd cl (sb + 1 + c) v) cr he nu (upd lf (cb (sb + 1 + c)) w) rg := by
  obtain ⟨p, q1, q2, q3⟩ := H
  refine ⟨p, fun d hd => ?_, q2, q3⟩
  obtain ⟨a1, a2, a3, a4, a5, a6⟩ := q1 d hd
  refine ⟨a1, a2, a3, a4, ?_, a6⟩
  by_cases e : d = c
  · rw [e, pk_us, pk_us]; exact hv
  · rw [pk_un (fun z => e (q2 d c hd hc z)), pk_un (by omega)]
    exact a5
theorem sm_hpR {c : Nat} {v w : Int32} (H : sm_HP cp us sb bo cb cn cl cr he nu lf rg) (hc : c < us) (hv : sm_VR us sb cb v w) : sm_HP cp us sb bo cb cn cl (upd cr (sb + 1 + c) v) he nu lf (upd rg (cb (sb + 1 + c)) w) := by
  obtain ⟨p, q1, q2, q3⟩ := H
  refine ⟨p, fun d hd => ?_, q2, q3⟩
  obtain ⟨a1, a2, a3, a4, a5, a6⟩ := q1 d hd
  refine ⟨a1, a2, a3, a4, a5, ?_⟩
  by_cases e : d = c
  · rw [e, pk_us, pk_us]; exact hv
  · rw [pk_un (fun z => e (q2 d c hd hc z)), pk_un (by omega)]
    exact a6
theorem sm_st1 (R : sm_REL 2 opn xch xck xbc cp lm np nt (f + 1) sb us bo oc pm vs mk fi tk xo xj ow xh xk xl fp fa fh cb gl xbk xbp xbh sl cn cl cr lo st he nu lf rg hh kk dp pt hd) (hx : xo (fa f) = 1) : sm_OUT (fun post => wpX_step post (xle, xpe, nI cp, nI lm, 2, nI np, opn, nI nt, xch, xck, xbc, nI (f + 1), nI sb, nI us, xcb, xcc, col, nI bo, nI oc, res, sm_n pm, sm_n vs, sm_n mk, sm_k gl, sm_n fi, sm_n tk, sm_n xo, sm_n (sm_ar tk), sm_n xj, sm_n ow, sm_n xh, sm_n xk, sm_n xl, xbk, xbp, xbh, sm_n fp, sm_n fa, sl, cn, cl, cr, sm_n cb, fw, ou)) (fun post => ∀ (yh yd : Int32) (yt yb ys yr : Nat → Int32), wpY_step post (nI cp, nI lm, 2, nI np, opn, nI nt, yh, yd, nI (f + 1), nI bo, col, nI oc, res, sm_n tk, sm_n fi, sm_n pm, sm_n vs, sm_n mk, sm_k gl, yt, yb, ys, yr, sm_n fp, sm_n fa, sm_n fh, lo, st, he, nu, lf, rg, ou)) := by
  obtain ⟨⟨l1, l2, l3⟩, hmk, hP, hxx, H, h0, h1, h2⟩ := R
  obtain ⟨rfl, n1, hL⟩ := h1 (by decide)
  have RN := h2 rfl
  obtain ⟨r1, r2, hF⟩ := id RN
  obtain ⟨⟨f1, hi, hp⟩, f2, f3, f4, f5⟩ := hF f (by omega)
  have f2 := f2 rfl
  have n160 := hP.1.2.1
  have h8 : f < 8 := by omega
  have hhb := sm_PH hP (show fa f ≤ nt by omega)
  have hh8 : hh (fa f) ≤ 8 := hhb.1
  have hf8 : fh f ≤ 8 := by omega
  have hxh := (hxx _ hi).1
  obtain ⟨a1, a2, a3, a4, a5, a6, a7⟩ := sm_PA hP hi
  obtain ⟨b1, b2, b3, b4, b5, b6⟩ := sm_PB hP hi
  have hvs := (sm_PQ hP f1).2.2.1
  obtain ⟨⟨p1, p2, p3, p4, psb⟩, q1, q2, q3⟩ := id H
  have hK : tk (fa f) % 100 = 1 := by
    obtain ⟨e1, e2⟩ := sm_xoe hP hi
    by_cases q : tk (fa f) % 100 = 24
    · rcases e2 q with z | z | z <;> omega
    · rw [← e1 q]; exact hx
  have hpop := sm_pop1 (pm := pm) hK
  have hle : sm_pop pm (tk (fa f)) ≤ fh f := by omega
  have hr : fh f - sm_pop pm (tk (fa f)) < 8 := by
    have hps : sm_ps (tk (fa f)) = 1 := if_pos (by omega)
    rw [b4] at b5
    unfold sm_h2 at b5
    omega
  have hs : sm_s1 xo xj (fa f) = some (fa f + 1) := by
    unfold sm_s1
    rw [if_neg (by omega), if_neg (by omega)]
  have hs2 := (sm_s1f hP hi hs).1
  have es : f * 16 + 8 + hh (fa f) = f * 16 + 8 + (fh f - sm_pop pm (tk (fa f))) := by omega
  obtain ⟨va, ea⟩ : ∃ va : Int32, va = nI (tk (fa f) / 100) := ⟨_, rfl⟩
  obtain ⟨vb, eb⟩ : ∃ vb : Int32, vb = nI (tk (fa f) / 100) := ⟨_, rfl⟩
  have RN' := sm_rnPush (a := va) (b := vb) hP hL RN (fun _ _ z => z) (Or.inl hs) (by omega) (by rw [ea, eb]; rw [sm_pk1 hK]; exact ⟨fun _ => rfl, fun z => absurd z (by decide)⟩)
  rw [← f2] at RN'
  have HH := H
  refine sm_OUTi (xle := xle) (xpe := xpe) (sta := 2) (opn := 0) (xch := xch) (xck := xck) (xbc := xbc) (xcb := xcb) (xcc := xcc) (col := col) (res := res) (cp := cp) (lm := lm) (np := np) (nt := nt) (fr := f + 1) (sb := sb) (us := us) (bo := bo) (oc := oc) (pm := pm) (vs := vs) (mk := mk) (fi := fi) (tk := tk) (xo := xo) (xj := xj) (ow := ow) (xh := xh) (xk := xk) (xl := xl) (fp := fp) (fa := sm_u fa f (fa f + 1)) (fh := sm_u fh f (fh f - sm_pop pm (tk (fa f)) + 1)) (cb := cb) (gl := gl) (xbk := xbk) (xbp := xbp) (xbh := xbh) (sl := upd sl (f * 16 + 8 + (fh f - sm_pop pm (tk (fa f)))) va) (cn := cn) (cl := cl) (cr := cr) (fw := fw) (ou := ou) (lo := lo) (st := upd st (f * 8 + (fh f - sm_pop pm (tk (fa f)))) vb) (he := he) (nu := nu) (lf := lf) (rg := rg) (hh := hh) (kk := kk) (dp := dp) (pt := pt) (hd := hd) ?_ (fun post hp => sm_xs1 h8 hi n160 hxh hh8 hx (by omega) (by rw [← ea, es]; exact hp)) (fun post hp2 yh yd yt yb ys yr => ?_)
  · exact ⟨⟨l1, l2, l3⟩, hmk, hP, hxx, HH, fun z => absurd z (by decide), fun _ => ⟨rfl, n1, hL⟩, fun _ => RN'⟩
  · refine sm_y128 hP h8 hi hf8 (fun x8 e8 => ?_)
    rw [if_neg (show ¬ ((tk (fa f) % 100 = 20 ∨ tk (fa f) % 100 = 23) ∧ _) from fun z => absurd z.1 (by omega)), hs] at e8
    subst e8
    rw [hK]
    exact br_t (by decide) (br_t (by decide) (br_f (by decide) (br_f (by decide) (br_t (nI_pos' (by omega)) (br_f (by decide) (sm_yc1 (by rw [← eb]; exact (sm_y549a hP h8 hi hf8 hp hle (by omega) hr (hp2 yh yd yt yb ys yr)))))))))
theorem sm_st2 (R : sm_REL 2 opn xch xck xbc cp lm np nt (f + 1) sb us bo oc pm vs mk fi tk xo xj ow xh xk xl fp fa fh cb gl xbk xbp xbh sl cn cl cr lo st he nu lf rg hh kk dp pt hd) (hx : xo (fa f) = 2) : sm_OUT (fun post => wpX_step post (xle, xpe, nI cp, nI lm, 2, nI np, opn, nI nt, xch, xck, xbc, nI (f + 1), nI sb, nI us, xcb, xcc, col, nI bo, nI oc, res, sm_n pm, sm_n vs, sm_n mk, sm_k gl, sm_n fi, sm_n tk, sm_n xo, sm_n (sm_ar tk), sm_n xj, sm_n ow, sm_n xh, sm_n xk, sm_n xl, xbk, xbp, xbh, sm_n fp, sm_n fa, sl, cn, cl, cr, sm_n cb, fw, ou)) (fun post => ∀ (yh yd : Int32) (yt yb ys yr : Nat → Int32), wpY_step post (nI cp, nI lm, 2, nI np, opn, nI nt, yh, yd, nI (f + 1), nI bo, col, nI oc, res, sm_n tk, sm_n fi, sm_n pm, sm_n vs, sm_n mk, sm_k gl, yt, yb, ys, yr, sm_n fp, sm_n fa, sm_n fh, lo, st, he, nu, lf, rg, ou)) := by
  obtain ⟨⟨l1, l2, l3⟩, hmk, hP, hxx, H, h0, h1, h2⟩ := R
  obtain ⟨rfl, n1, hL⟩ := h1 (by decide)
  have RN := h2 rfl
  obtain ⟨r1, r2, hF⟩ := id RN
  obtain ⟨⟨f1, hi, hp⟩, f2, f3, f4, f5⟩ := hF f (by omega)
  have f2 := f2 rfl
  have n160 := hP.1.2.1
  have h8 : f < 8 := by omega
  have hhb := sm_PH hP (show fa f ≤ nt by omega)
  have hh8 : hh (fa f) ≤ 8 := hhb.1
  have hf8 : fh f ≤ 8 := by omega
  have hxh := (hxx _ hi).1
  obtain ⟨a1, a2, a3, a4, a5, a6, a7⟩ := sm_PA hP hi
  obtain ⟨b1, b2, b3, b4, b5, b6⟩ := sm_PB hP hi
  have hvs := (sm_PQ hP f1).2.2.1
  obtain ⟨⟨p1, p2, p3, p4, psb⟩, q1, q2, q3⟩ := id H
  have hK : tk (fa f) % 100 = 2 := by
    obtain ⟨e1, e2⟩ := sm_xoe hP hi
    by_cases q : tk (fa f) % 100 = 24
    · rcases e2 q with z | z | z <;> omega
    · rw [← e1 q]; exact hx
  have hpop := sm_pop2 (pm := pm) hK
  have hle : sm_pop pm (tk (fa f)) ≤ fh f := by omega
  have hr : fh f - sm_pop pm (tk (fa f)) < 8 := by
    have hps : sm_ps (tk (fa f)) = 1 := if_pos (by omega)
    rw [b4] at b5
    unfold sm_h2 at b5
    omega
  have hs : sm_s1 xo xj (fa f) = some (fa f + 1) := by
    unfold sm_s1
    rw [if_neg (by omega), if_neg (by omega)]
  have hs2 := (sm_s1f hP hi hs).1
  have es : f * 16 + 8 + hh (fa f) = f * 16 + 8 + (fh f - sm_pop pm (tk (fa f))) := by omega
  obtain ⟨va, ea⟩ : ∃ va : Int32, va = 0 := ⟨_, rfl⟩
  obtain ⟨vb, eb⟩ : ∃ vb : Int32, vb = 0 := ⟨_, rfl⟩
  have RN' := sm_rnPush (a := va) (b := vb) hP hL RN (fun _ _ z => z) (Or.inl hs) (by omega) (by rw [ea, eb]; rw [sm_pk2 hK]; exact ⟨fun z => absurd z (by decide), fun _ => Or.inl ⟨rfl, rfl⟩⟩)
  rw [← f2] at RN'
  have HH := H
  refine sm_OUTi (xle := xle) (xpe := xpe) (sta := 2) (opn := 0) (xch := xch) (xck := xck) (xbc := xbc) (xcb := xcb) (xcc := xcc) (col := col) (res := res) (cp := cp) (lm := lm) (np := np) (nt := nt) (fr := f + 1) (sb := sb) (us := us) (bo := bo) (oc := oc) (pm := pm) (vs := vs) (mk := mk) (fi := fi) (tk := tk) (xo := xo) (xj := xj) (ow := ow) (xh := xh) (xk := xk) (xl := xl) (fp := fp) (fa := sm_u fa f (fa f + 1)) (fh := sm_u fh f (fh f - sm_pop pm (tk (fa f)) + 1)) (cb := cb) (gl := gl) (xbk := xbk) (xbp := xbp) (xbh := xbh) (sl := upd sl (f * 16 + 8 + (fh f - sm_pop pm (tk (fa f)))) va) (cn := cn) (cl := cl) (cr := cr) (fw := fw) (ou := ou) (lo := lo) (st := upd st (f * 8 + (fh f - sm_pop pm (tk (fa f)))) vb) (he := he) (nu := nu) (lf := lf) (rg := rg) (hh := hh) (kk := kk) (dp := dp) (pt := pt) (hd := hd) ?_ (fun post hp => sm_xs2 h8 hi n160 hxh hh8 hx (by omega) (by rw [es]; subst ea; exact hp)) (fun post hp2 yh yd yt yb ys yr => ?_)
  · exact ⟨⟨l1, l2, l3⟩, hmk, hP, hxx, HH, fun z => absurd z (by decide), fun _ => ⟨rfl, n1, hL⟩, fun _ => RN'⟩
  · refine sm_y128 hP h8 hi hf8 (fun x8 e8 => ?_)
    rw [if_neg (show ¬ ((tk (fa f) % 100 = 20 ∨ tk (fa f) % 100 = 23) ∧ _) from fun z => absurd z.1 (by omega)), hs] at e8
    subst e8
    rw [hK]
    exact br_t (by decide) (br_t (by decide) (br_f (by decide) (br_f (by decide) (br_t (nI_pos' (by omega)) (br_f (by decide) (sm_yc2 (by subst eb; exact (sm_y549a hP h8 hi hf8 hp hle (by omega) hr (hp2 yh yd yt yb ys yr)))))))))
theorem sm_st3 (R : sm_REL 2 opn xch xck xbc cp lm np nt (f + 1) sb us bo oc pm vs mk fi tk xo xj ow xh xk xl fp fa fh cb gl xbk xbp xbh sl cn cl cr lo st he nu lf rg hh kk dp pt hd) (hx : xo (fa f) = 3) : sm_OUT (fun post => wpX_step post (xle, xpe, nI cp, nI lm, 2, nI np, opn, nI nt, xch, xck, xbc, nI (f + 1), nI sb, nI us, xcb, xcc, col, nI bo, nI oc, res, sm_n pm, sm_n vs, sm_n mk, sm_k gl, sm_n fi, sm_n tk, sm_n xo, sm_n (sm_ar tk), sm_n xj, sm_n ow, sm_n xh, sm_n xk, sm_n xl, xbk, xbp, xbh, sm_n fp, sm_n fa, sl, cn, cl, cr, sm_n cb, fw, ou)) (fun post => ∀ (yh yd : Int32) (yt yb ys yr : Nat → Int32), wpY_step post (nI cp, nI lm, 2, nI np, opn, nI nt, yh, yd, nI (f + 1), nI bo, col, nI oc, res, sm_n tk, sm_n fi, sm_n pm, sm_n vs, sm_n mk, sm_k gl, yt, yb, ys, yr, sm_n fp, sm_n fa, sm_n fh, lo, st, he, nu, lf, rg, ou)) := by
  obtain ⟨⟨l1, l2, l3⟩, hmk, hP, hxx, H, h0, h1, h2⟩ := R
  obtain ⟨rfl, n1, hL⟩ := h1 (by decide)
  have RN := h2 rfl
  obtain ⟨r1, r2, hF⟩ := id RN
  obtain ⟨⟨f1, hi, hp⟩, f2, f3, f4, f5⟩ := hF f (by omega)
  have f2 := f2 rfl
  have n160 := hP.1.2.1
  have h8 : f < 8 := by omega
  have hhb := sm_PH hP (show fa f ≤ nt by omega)
  have hh8 : hh (fa f) ≤ 8 := hhb.1
  have hf8 : fh f ≤ 8 := by omega
  have hxh := (hxx _ hi).1
  obtain ⟨a1, a2, a3, a4, a5, a6, a7⟩ := sm_PA hP hi
  obtain ⟨b1, b2, b3, b4, b5, b6⟩ := sm_PB hP hi
  have hvs := (sm_PQ hP f1).2.2.1
  obtain ⟨⟨p1, p2, p3, p4, psb⟩, q1, q2, q3⟩ := id H
  have hK : tk (fa f) % 100 = 3 := by
    obtain ⟨e1, e2⟩ := sm_xoe hP hi
    by_cases q : tk (fa f) % 100 = 24
    · rcases e2 q with z | z | z <;> omega
    · rw [← e1 q]; exact hx
  have hpop := sm_pop3 (pm := pm) hK
  have hle : sm_pop pm (tk (fa f)) ≤ fh f := by omega
  have hr : fh f - sm_pop pm (tk (fa f)) < 8 := by
    have hps : sm_ps (tk (fa f)) = 1 := if_pos (by omega)
    rw [b4] at b5
    unfold sm_h2 at b5
    omega
  have hs : sm_s1 xo xj (fa f) = some (fa f + 1) := by
    unfold sm_s1
    rw [if_neg (by omega), if_neg (by omega)]
  have hs2 := (sm_s1f hP hi hs).1
  have ha := a5 (Or.inl hK)
  rw [hp] at ha
  have es : f * 16 + 8 + hh (fa f) = f * 16 + 8 + (fh f - sm_pop pm (tk (fa f))) := by omega
  obtain ⟨va, ea⟩ : ∃ va : Int32, va = sl (f * 16 + tk (fa f) / 100) := ⟨_, rfl⟩
  obtain ⟨vb, eb⟩ : ∃ vb : Int32, vb = lo (f * 8 + tk (fa f) / 100) := ⟨_, rfl⟩
  have RN' := sm_rnPush (a := va) (b := vb) hP hL RN (fun _ _ z => z) (Or.inl hs) (by omega) (by rw [ea, eb]; rw [sm_pk3 hK]; exact ⟨(f4 _ ha).1, fun z => (f4 _ ha).2 z (((hL _ hi).2 _ (by omega)).mpr (sm_ls_r ⟨hi, by omega⟩))⟩)
  rw [← f2] at RN'
  have HH := H
  refine sm_OUTi (xle := xle) (xpe := xpe) (sta := 2) (opn := 0) (xch := xch) (xck := xck) (xbc := xbc) (xcb := xcb) (xcc := xcc) (col := col) (res := res) (cp := cp) (lm := lm) (np := np) (nt := nt) (fr := f + 1) (sb := sb) (us := us) (bo := bo) (oc := oc) (pm := pm) (vs := vs) (mk := mk) (fi := fi) (tk := tk) (xo := xo) (xj := xj) (ow := ow) (xh := xh) (xk := xk) (xl := xl) (fp := fp) (fa := sm_u fa f (fa f + 1)) (fh := sm_u fh f (fh f - sm_pop pm (tk (fa f)) + 1)) (cb := cb) (gl := gl) (xbk := xbk) (xbp := xbp) (xbh := xbh) (sl := upd sl (f * 16 + 8 + (fh f - sm_pop pm (tk (fa f)))) va) (cn := cn) (cl := cl) (cr := cr) (fw := fw) (ou := ou) (lo := lo) (st := upd st (f * 8 + (fh f - sm_pop pm (tk (fa f)))) vb) (he := he) (nu := nu) (lf := lf) (rg := rg) (hh := hh) (kk := kk) (dp := dp) (pt := pt) (hd := hd) ?_ (fun post hp => sm_xs3 h8 hi n160 hxh hh8 hx (by omega) (by omega) (by rw [← ea, es]; exact hp)) (fun post hp2 yh yd yt yb ys yr => ?_)
  · exact ⟨⟨l1, l2, l3⟩, hmk, hP, hxx, HH, fun z => absurd z (by decide), fun _ => ⟨rfl, n1, hL⟩, fun _ => RN'⟩
  · refine sm_y128 hP h8 hi hf8 (fun x8 e8 => ?_)
    rw [if_neg (show ¬ ((tk (fa f) % 100 = 20 ∨ tk (fa f) % 100 = 23) ∧ _) from fun z => absurd z.1 (by omega)), hs] at e8
    subst e8
    rw [hK]
    exact br_t (by decide) (br_t (by decide) (br_f (by decide) (br_f (by decide) (br_t (nI_pos' (by omega)) (br_f (by decide) (sm_yc3 (k := f * 8 + tk (fa f) / 100) (by rw [sm_mu8, nI_add]) (by omega) (by rw [← eb]; exact (sm_y549a hP h8 hi hf8 hp hle (by omega) hr (hp2 yh yd yt yb ys yr)))))))))
theorem sm_st4 (R : sm_REL 2 opn xch xck xbc cp lm np nt (f + 1) sb us bo oc pm vs mk fi tk xo xj ow xh xk xl fp fa fh cb gl xbk xbp xbh sl cn cl cr lo st he nu lf rg hh kk dp pt hd) (hx : xo (fa f) = 4) : sm_OUT (fun post => wpX_step post (xle, xpe, nI cp, nI lm, 2, nI np, opn, nI nt, xch, xck, xbc, nI (f + 1), nI sb, nI us, xcb, xcc, col, nI bo, nI oc, res, sm_n pm, sm_n vs, sm_n mk, sm_k gl, sm_n fi, sm_n tk, sm_n xo, sm_n (sm_ar tk), sm_n xj, sm_n ow, sm_n xh, sm_n xk, sm_n xl, xbk, xbp, xbh, sm_n fp, sm_n fa, sl, cn, cl, cr, sm_n cb, fw, ou)) (fun post => ∀ (yh yd : Int32) (yt yb ys yr : Nat → Int32), wpY_step post (nI cp, nI lm, 2, nI np, opn, nI nt, yh, yd, nI (f + 1), nI bo, col, nI oc, res, sm_n tk, sm_n fi, sm_n pm, sm_n vs, sm_n mk, sm_k gl, yt, yb, ys, yr, sm_n fp, sm_n fa, sm_n fh, lo, st, he, nu, lf, rg, ou)) := by
  obtain ⟨⟨l1, l2, l3⟩, hmk, hP, hxx, H, h0, h1, h2⟩ := R
  obtain ⟨rfl, n1, hL⟩ := h1 (by decide)
  have RN := h2 rfl
  obtain ⟨r1, r2, hF⟩ := id RN
  obtain ⟨⟨f1, hi, hp⟩, f2, f3, f4, f5⟩ := hF f (by omega)
  have f2 := f2 rfl
  have n160 := hP.1.2.1
  have h8 : f < 8 := by omega
  have hhb := sm_PH hP (show fa f ≤ nt by omega)
  have hh8 : hh (fa f) ≤ 8 := hhb.1
  have hf8 : fh f ≤ 8 := by omega
  have hxh := (hxx _ hi).1
  obtain ⟨a1, a2, a3, a4, a5, a6, a7⟩ := sm_PA hP hi
  obtain ⟨b1, b2, b3, b4, b5, b6⟩ := sm_PB hP hi
  have hvs := (sm_PQ hP f1).2.2.1
  obtain ⟨⟨p1, p2, p3, p4, psb⟩, q1, q2, q3⟩ := id H
  have hK : tk (fa f) % 100 = 4 := by
    obtain ⟨e1, e2⟩ := sm_xoe hP hi
    by_cases q : tk (fa f) % 100 = 24
    · rcases e2 q with z | z | z <;> omega
    · rw [← e1 q]; exact hx
  have hpop := sm_pop4 (pm := pm) hK
  have hle : sm_pop pm (tk (fa f)) ≤ fh f := by omega
  have hr : fh f - sm_pop pm (tk (fa f)) < 8 := by
    have hps : sm_ps (tk (fa f)) = 1 := if_pos (by omega)
    rw [b4] at b5
    unfold sm_h2 at b5
    omega
  have hs : sm_s1 xo xj (fa f) = some (fa f + 1) := by
    unfold sm_s1
    rw [if_neg (by omega), if_neg (by omega)]
  have hs2 := (sm_s1f hP hi hs).1
  have tb := (sm_tyb a1 a2 hhb.2 b1 (by omega) (by omega)).mp b3
  rw [hpop, sm_wk4 hK] at tb
  have k0 := tb 0 (by omega)
  have k1 := tb 1 (by omega)
  rw [Nat.zero_testBit] at k0 k1
  rw [show hh (fa f) - 2 + 0 = hh (fa f) - 2 by omega] at k0
  rw [show hh (fa f) - 2 + 1 = hh (fa f) - 1 by omega] at k1
  have vA := (f5 (hh (fa f) - 2) (by omega)).1 k0
  have vB := (f5 (hh (fa f) - 1) (by omega)).1 k1
  have x6e : sm_x6 st f (fh f) = st (f * 8 + (hh (fa f) - 1)) := by
    unfold sm_x6
    rw [if_neg (by omega), f2]
  have x7e : sm_x7 st f (fh f) = st (f * 8 + (hh (fa f) - 2)) := by
    unfold sm_x7
    rw [if_neg (by omega), f2]
  have es : f * 16 + 8 + (hh (fa f) - 2) = f * 16 + 8 + (fh f - sm_pop pm (tk (fa f))) := by omega
  obtain ⟨va, ea⟩ : ∃ va : Int32, va = sl (f * 16 + 8 + (hh (fa f) - 2)) + sl (f * 16 + 8 + (hh (fa f) - 1)) := ⟨_, rfl⟩
  obtain ⟨vb, eb⟩ : ∃ vb : Int32, vb = st (f * 8 + (hh (fa f) - 2)) + st (f * 8 + (hh (fa f) - 1)) := ⟨_, rfl⟩
  have RN' := sm_rnPush (a := va) (b := vb) hP hL RN (fun _ _ z => z) (Or.inl hs) (by omega) (by rw [ea, eb]; rw [sm_pk4 hK, vA, vB]; exact ⟨fun _ => rfl, fun z => absurd z (by decide)⟩)
  rw [← f2] at RN'
  have HH := H
  refine sm_OUTi (xle := xle) (xpe := xpe) (sta := 2) (opn := 0) (xch := xch) (xck := xck) (xbc := xbc) (xcb := xcb) (xcc := xcc) (col := col) (res := res) (cp := cp) (lm := lm) (np := np) (nt := nt) (fr := f + 1) (sb := sb) (us := us) (bo := bo) (oc := oc) (pm := pm) (vs := vs) (mk := mk) (fi := fi) (tk := tk) (xo := xo) (xj := xj) (ow := ow) (xh := xh) (xk := xk) (xl := xl) (fp := fp) (fa := sm_u fa f (fa f + 1)) (fh := sm_u fh f (fh f - sm_pop pm (tk (fa f)) + 1)) (cb := cb) (gl := gl) (xbk := xbk) (xbp := xbp) (xbh := xbh) (sl := upd sl (f * 16 + 8 + (fh f - sm_pop pm (tk (fa f)))) va) (cn := cn) (cl := cl) (cr := cr) (fw := fw) (ou := ou) (lo := lo) (st := upd st (f * 8 + (fh f - sm_pop pm (tk (fa f)))) vb) (he := he) (nu := nu) (lf := lf) (rg := rg) (hh := hh) (kk := kk) (dp := dp) (pt := pt) (hd := hd) ?_ (fun post hp => sm_xs4 h8 hi n160 hxh hh8 hx (by omega) (by rw [← ea, es]; exact hp)) (fun post hp2 yh yd yt yb ys yr => ?_)
  · exact ⟨⟨l1, l2, l3⟩, hmk, hP, hxx, HH, fun z => absurd z (by decide), fun _ => ⟨rfl, n1, hL⟩, fun _ => RN'⟩
  · refine sm_y128 hP h8 hi hf8 (fun x8 e8 => ?_)
    rw [if_neg (show ¬ ((tk (fa f) % 100 = 20 ∨ tk (fa f) % 100 = 23) ∧ _) from fun z => absurd z.1 (by omega)), hs] at e8
    subst e8
    rw [hK]
    exact br_t (by decide) (br_t (by decide) (br_f (by decide) (br_f (by decide) (br_t (nI_pos' (by omega)) (br_f (by decide) (sm_yc4 (by rw [x7e, x6e, ← eb]; exact (sm_y549a hP h8 hi hf8 hp hle (by omega) hr (hp2 yh yd yt yb ys yr)))))))))
theorem sm_st5 (R : sm_REL 2 opn xch xck xbc cp lm np nt (f + 1) sb us bo oc pm vs mk fi tk xo xj ow xh xk xl fp fa fh cb gl xbk xbp xbh sl cn cl cr lo st he nu lf rg hh kk dp pt hd) (hx : xo (fa f) = 5) : sm_OUT (fun post => wpX_step post (xle, xpe, nI cp, nI lm, 2, nI np, opn, nI nt, xch, xck, xbc, nI (f + 1), nI sb, nI us, xcb, xcc, col, nI bo, nI oc, res, sm_n pm, sm_n vs, sm_n mk, sm_k gl, sm_n fi, sm_n tk, sm_n xo, sm_n (sm_ar tk), sm_n xj, sm_n ow, sm_n xh, sm_n xk, sm_n xl, xbk, xbp, xbh, sm_n fp, sm_n fa, sl, cn, cl, cr, sm_n cb, fw, ou)) (fun post => ∀ (yh yd : Int32) (yt yb ys yr : Nat → Int32), wpY_step post (nI cp, nI lm, 2, nI np, opn, nI nt, yh, yd, nI (f + 1), nI bo, col, nI oc, res, sm_n tk, sm_n fi, sm_n pm, sm_n vs, sm_n mk, sm_k gl, yt, yb, ys, yr, sm_n fp, sm_n fa, sm_n fh, lo, st, he, nu, lf, rg, ou)) := by
  obtain ⟨⟨l1, l2, l3⟩, hmk, hP, hxx, H, h0, h1, h2⟩ := R
  obtain ⟨rfl, n1, hL⟩ := h1 (by decide)
  have RN := h2 rfl
  obtain ⟨r1, r2, hF⟩ := id RN
  obtain ⟨⟨f1, hi, hp⟩, f2, f3, f4, f5⟩ := hF f (by omega)
  have f2 := f2 rfl
  have n160 := hP.1.2.1
  have h8 : f < 8 := by omega
  have hhb := sm_PH hP (show fa f ≤ nt by omega)
  have hh8 : hh (fa f) ≤ 8 := hhb.1
  have hf8 : fh f ≤ 8 := by omega
  have hxh := (hxx _ hi).1
  obtain ⟨a1, a2, a3, a4, a5, a6, a7⟩ := sm_PA hP hi
  obtain ⟨b1, b2, b3, b4, b5, b6⟩ := sm_PB hP hi
  have hvs := (sm_PQ hP f1).2.2.1
  obtain ⟨⟨p1, p2, p3, p4, psb⟩, q1, q2, q3⟩ := id H
  have hK : tk (fa f) % 100 = 5 := by
    obtain ⟨e1, e2⟩ := sm_xoe hP hi
    by_cases q : tk (fa f) % 100 = 24
    · rcases e2 q with z | z | z <;> omega
    · rw [← e1 q]; exact hx
  have hpop := sm_pop5 (pm := pm) hK
  have hle : sm_pop pm (tk (fa f)) ≤ fh f := by omega
  have hr : fh f - sm_pop pm (tk (fa f)) < 8 := by
    have hps : sm_ps (tk (fa f)) = 1 := if_pos (by omega)
    rw [b4] at b5
    unfold sm_h2 at b5
    omega
  have hs : sm_s1 xo xj (fa f) = some (fa f + 1) := by
    unfold sm_s1
    rw [if_neg (by omega), if_neg (by omega)]
  have hs2 := (sm_s1f hP hi hs).1
  have tb := (sm_tyb a1 a2 hhb.2 b1 (by omega) (by omega)).mp b3
  rw [hpop, sm_wk5 hK] at tb
  have k0 := tb 0 (by omega)
  have k1 := tb 1 (by omega)
  rw [Nat.zero_testBit] at k0 k1
  rw [show hh (fa f) - 2 + 0 = hh (fa f) - 2 by omega] at k0
  rw [show hh (fa f) - 2 + 1 = hh (fa f) - 1 by omega] at k1
  have vA := (f5 (hh (fa f) - 2) (by omega)).1 k0
  have vB := (f5 (hh (fa f) - 1) (by omega)).1 k1
  have x6e : sm_x6 st f (fh f) = st (f * 8 + (hh (fa f) - 1)) := by
    unfold sm_x6
    rw [if_neg (by omega), f2]
  have x7e : sm_x7 st f (fh f) = st (f * 8 + (hh (fa f) - 2)) := by
    unfold sm_x7
    rw [if_neg (by omega), f2]
  have es : f * 16 + 8 + (hh (fa f) - 2) = f * 16 + 8 + (fh f - sm_pop pm (tk (fa f))) := by omega
  obtain ⟨va, ea⟩ : ∃ va : Int32, va = sl (f * 16 + 8 + (hh (fa f) - 2)) - sl (f * 16 + 8 + (hh (fa f) - 1)) := ⟨_, rfl⟩
  obtain ⟨vb, eb⟩ : ∃ vb : Int32, vb = st (f * 8 + (hh (fa f) - 2)) - st (f * 8 + (hh (fa f) - 1)) := ⟨_, rfl⟩
  have RN' := sm_rnPush (a := va) (b := vb) hP hL RN (fun _ _ z => z) (Or.inl hs) (by omega) (by rw [ea, eb]; rw [sm_pk5 hK, vA, vB]; exact ⟨fun _ => rfl, fun z => absurd z (by decide)⟩)
  rw [← f2] at RN'
  have HH := H
  refine sm_OUTi (xle := xle) (xpe := xpe) (sta := 2) (opn := 0) (xch := xch) (xck := xck) (xbc := xbc) (xcb := xcb) (xcc := xcc) (col := col) (res := res) (cp := cp) (lm := lm) (np := np) (nt := nt) (fr := f + 1) (sb := sb) (us := us) (bo := bo) (oc := oc) (pm := pm) (vs := vs) (mk := mk) (fi := fi) (tk := tk) (xo := xo) (xj := xj) (ow := ow) (xh := xh) (xk := xk) (xl := xl) (fp := fp) (fa := sm_u fa f (fa f + 1)) (fh := sm_u fh f (fh f - sm_pop pm (tk (fa f)) + 1)) (cb := cb) (gl := gl) (xbk := xbk) (xbp := xbp) (xbh := xbh) (sl := upd sl (f * 16 + 8 + (fh f - sm_pop pm (tk (fa f)))) va) (cn := cn) (cl := cl) (cr := cr) (fw := fw) (ou := ou) (lo := lo) (st := upd st (f * 8 + (fh f - sm_pop pm (tk (fa f)))) vb) (he := he) (nu := nu) (lf := lf) (rg := rg) (hh := hh) (kk := kk) (dp := dp) (pt := pt) (hd := hd) ?_ (fun post hp => sm_xs5 h8 hi n160 hxh hh8 hx (by omega) (by rw [← ea, es]; exact hp)) (fun post hp2 yh yd yt yb ys yr => ?_)
  · exact ⟨⟨l1, l2, l3⟩, hmk, hP, hxx, HH, fun z => absurd z (by decide), fun _ => ⟨rfl, n1, hL⟩, fun _ => RN'⟩
  · refine sm_y128 hP h8 hi hf8 (fun x8 e8 => ?_)
    rw [if_neg (show ¬ ((tk (fa f) % 100 = 20 ∨ tk (fa f) % 100 = 23) ∧ _) from fun z => absurd z.1 (by omega)), hs] at e8
    subst e8
    rw [hK]
    exact br_t (by decide) (br_t (by decide) (br_f (by decide) (br_f (by decide) (br_t (nI_pos' (by omega)) (br_f (by decide) (sm_yc5 (by rw [x7e, x6e, ← eb]; exact (sm_y549a hP h8 hi hf8 hp hle (by omega) hr (hp2 yh yd yt yb ys yr)))))))))
theorem sm_st6 (R : sm_REL 2 opn xch xck xbc cp lm np nt (f + 1) sb us bo oc pm vs mk fi tk xo xj ow xh xk xl fp fa fh cb gl xbk xbp xbh sl cn cl cr lo st he nu lf rg hh kk dp pt hd) (hx : xo (fa f) = 6) : sm_OUT (fun post => wpX_step post (xle, xpe, nI cp, nI lm, 2, nI np, opn, nI nt, xch, xck, xbc, nI (f + 1), nI sb, nI us, xcb, xcc, col, nI bo, nI oc, res, sm_n pm, sm_n vs, sm_n mk, sm_k gl, sm_n fi, sm_n tk, sm_n xo, sm_n (sm_ar tk), sm_n xj, sm_n ow, sm_n xh, sm_n xk, sm_n xl, xbk, xbp, xbh, sm_n fp, sm_n fa, sl, cn, cl, cr, sm_n cb, fw, ou)) (fun post => ∀ (yh yd : Int32) (yt yb ys yr : Nat → Int32), wpY_step post (nI cp, nI lm, 2, nI np, opn, nI nt, yh, yd, nI (f + 1), nI bo, col, nI oc, res, sm_n tk, sm_n fi, sm_n pm, sm_n vs, sm_n mk, sm_k gl, yt, yb, ys, yr, sm_n fp, sm_n fa, sm_n fh, lo, st, he, nu, lf, rg, ou)) := by
  obtain ⟨⟨l1, l2, l3⟩, hmk, hP, hxx, H, h0, h1, h2⟩ := R
  obtain ⟨rfl, n1, hL⟩ := h1 (by decide)
  have RN := h2 rfl
  obtain ⟨r1, r2, hF⟩ := id RN
  obtain ⟨⟨f1, hi, hp⟩, f2, f3, f4, f5⟩ := hF f (by omega)
  have f2 := f2 rfl
  have n160 := hP.1.2.1
  have h8 : f < 8 := by omega
  have hhb := sm_PH hP (show fa f ≤ nt by omega)
  have hh8 : hh (fa f) ≤ 8 := hhb.1
  have hf8 : fh f ≤ 8 := by omega
  have hxh := (hxx _ hi).1
  obtain ⟨a1, a2, a3, a4, a5, a6, a7⟩ := sm_PA hP hi
  obtain ⟨b1, b2, b3, b4, b5, b6⟩ := sm_PB hP hi
  have hvs := (sm_PQ hP f1).2.2.1
  obtain ⟨⟨p1, p2, p3, p4, psb⟩, q1, q2, q3⟩ := id H
  have hK : tk (fa f) % 100 = 6 := by
    obtain ⟨e1, e2⟩ := sm_xoe hP hi
    by_cases q : tk (fa f) % 100 = 24
    · rcases e2 q with z | z | z <;> omega
    · rw [← e1 q]; exact hx
  have hpop := sm_pop6 (pm := pm) hK
  have hle : sm_pop pm (tk (fa f)) ≤ fh f := by omega
  have hr : fh f - sm_pop pm (tk (fa f)) < 8 := by
    have hps : sm_ps (tk (fa f)) = 1 := if_pos (by omega)
    rw [b4] at b5
    unfold sm_h2 at b5
    omega
  have hs : sm_s1 xo xj (fa f) = some (fa f + 1) := by
    unfold sm_s1
    rw [if_neg (by omega), if_neg (by omega)]
  have hs2 := (sm_s1f hP hi hs).1
  have tb := (sm_tyb a1 a2 hhb.2 b1 (by omega) (by omega)).mp b3
  rw [hpop, sm_wk6 hK] at tb
  have k0 := tb 0 (by omega)
  have k1 := tb 1 (by omega)
  rw [Nat.zero_testBit] at k0 k1
  rw [show hh (fa f) - 2 + 0 = hh (fa f) - 2 by omega] at k0
  rw [show hh (fa f) - 2 + 1 = hh (fa f) - 1 by omega] at k1
  have vA := (f5 (hh (fa f) - 2) (by omega)).1 k0
  have vB := (f5 (hh (fa f) - 1) (by omega)).1 k1
  have x6e : sm_x6 st f (fh f) = st (f * 8 + (hh (fa f) - 1)) := by
    unfold sm_x6
    rw [if_neg (by omega), f2]
  have x7e : sm_x7 st f (fh f) = st (f * 8 + (hh (fa f) - 2)) := by
    unfold sm_x7
    rw [if_neg (by omega), f2]
  have es : f * 16 + 8 + (hh (fa f) - 2) = f * 16 + 8 + (fh f - sm_pop pm (tk (fa f))) := by omega
  obtain ⟨va, ea⟩ : ∃ va : Int32, va = sl (f * 16 + 8 + (hh (fa f) - 2)) * sl (f * 16 + 8 + (hh (fa f) - 1)) := ⟨_, rfl⟩
  obtain ⟨vb, eb⟩ : ∃ vb : Int32, vb = st (f * 8 + (hh (fa f) - 2)) * st (f * 8 + (hh (fa f) - 1)) := ⟨_, rfl⟩
  have RN' := sm_rnPush (a := va) (b := vb) hP hL RN (fun _ _ z => z) (Or.inl hs) (by omega) (by rw [ea, eb]; rw [sm_pk6 hK, vA, vB]; exact ⟨fun _ => rfl, fun z => absurd z (by decide)⟩)
  rw [← f2] at RN'
  have HH := H
  refine sm_OUTi (xle := xle) (xpe := xpe) (sta := 2) (opn := 0) (xch := xch) (xck := xck) (xbc := xbc) (xcb := xcb) (xcc := xcc) (col := col) (res := res) (cp := cp) (lm := lm) (np := np) (nt := nt) (fr := f + 1) (sb := sb) (us := us) (bo := bo) (oc := oc) (pm := pm) (vs := vs) (mk := mk) (fi := fi) (tk := tk) (xo := xo) (xj := xj) (ow := ow) (xh := xh) (xk := xk) (xl := xl) (fp := fp) (fa := sm_u fa f (fa f + 1)) (fh := sm_u fh f (fh f - sm_pop pm (tk (fa f)) + 1)) (cb := cb) (gl := gl) (xbk := xbk) (xbp := xbp) (xbh := xbh) (sl := upd sl (f * 16 + 8 + (fh f - sm_pop pm (tk (fa f)))) va) (cn := cn) (cl := cl) (cr := cr) (fw := fw) (ou := ou) (lo := lo) (st := upd st (f * 8 + (fh f - sm_pop pm (tk (fa f)))) vb) (he := he) (nu := nu) (lf := lf) (rg := rg) (hh := hh) (kk := kk) (dp := dp) (pt := pt) (hd := hd) ?_ (fun post hp => sm_xs6 h8 hi n160 hxh hh8 hx (by omega) (by rw [← ea, es]; exact hp)) (fun post hp2 yh yd yt yb ys yr => ?_)
  · exact ⟨⟨l1, l2, l3⟩, hmk, hP, hxx, HH, fun z => absurd z (by decide), fun _ => ⟨rfl, n1, hL⟩, fun _ => RN'⟩
  · refine sm_y128 hP h8 hi hf8 (fun x8 e8 => ?_)
    rw [if_neg (show ¬ ((tk (fa f) % 100 = 20 ∨ tk (fa f) % 100 = 23) ∧ _) from fun z => absurd z.1 (by omega)), hs] at e8
    subst e8
    rw [hK]
    exact br_t (by decide) (br_t (by decide) (br_f (by decide) (br_f (by decide) (br_t (nI_pos' (by omega)) (br_f (by decide) (sm_yc6 (by rw [x7e, x6e, ← eb]; exact (sm_y549a hP h8 hi hf8 hp hle (by omega) hr (hp2 yh yd yt yb ys yr)))))))))
theorem sm_st7 (R : sm_REL 2 opn xch xck xbc cp lm np nt (f + 1) sb us bo oc pm vs mk fi tk xo xj ow xh xk xl fp fa fh cb gl xbk xbp xbh sl cn cl cr lo st he nu lf rg hh kk dp pt hd) (hx : xo (fa f) = 7) : sm_OUT (fun post => wpX_step post (xle, xpe, nI cp, nI lm, 2, nI np, opn, nI nt, xch, xck, xbc, nI (f + 1), nI sb, nI us, xcb, xcc, col, nI bo, nI oc, res, sm_n pm, sm_n vs, sm_n mk, sm_k gl, sm_n fi, sm_n tk, sm_n xo, sm_n (sm_ar tk), sm_n xj, sm_n ow, sm_n xh, sm_n xk, sm_n xl, xbk, xbp, xbh, sm_n fp, sm_n fa, sl, cn, cl, cr, sm_n cb, fw, ou)) (fun post => ∀ (yh yd : Int32) (yt yb ys yr : Nat → Int32), wpY_step post (nI cp, nI lm, 2, nI np, opn, nI nt, yh, yd, nI (f + 1), nI bo, col, nI oc, res, sm_n tk, sm_n fi, sm_n pm, sm_n vs, sm_n mk, sm_k gl, yt, yb, ys, yr, sm_n fp, sm_n fa, sm_n fh, lo, st, he, nu, lf, rg, ou)) := by
  obtain ⟨⟨l1, l2, l3⟩, hmk, hP, hxx, H, h0, h1, h2⟩ := R
  obtain ⟨rfl, n1, hL⟩ := h1 (by decide)
  have RN := h2 rfl
  obtain ⟨r1, r2, hF⟩ := id RN
  obtain ⟨⟨f1, hi, hp⟩, f2, f3, f4, f5⟩ := hF f (by omega)
  have f2 := f2 rfl
  have n160 := hP.1.2.1
  have h8 : f < 8 := by omega
  have hhb := sm_PH hP (show fa f ≤ nt by omega)
  have hh8 : hh (fa f) ≤ 8 := hhb.1
  have hf8 : fh f ≤ 8 := by omega
  have hxh := (hxx _ hi).1
  obtain ⟨a1, a2, a3, a4, a5, a6, a7⟩ := sm_PA hP hi
  obtain ⟨b1, b2, b3, b4, b5, b6⟩ := sm_PB hP hi
  have hvs := (sm_PQ hP f1).2.2.1
  obtain ⟨⟨p1, p2, p3, p4, psb⟩, q1, q2, q3⟩ := id H
  have hK : tk (fa f) % 100 = 7 := by
    obtain ⟨e1, e2⟩ := sm_xoe hP hi
    by_cases q : tk (fa f) % 100 = 24
    · rcases e2 q with z | z | z <;> omega
    · rw [← e1 q]; exact hx
  have hpop := sm_pop7 (pm := pm) hK
  have hle : sm_pop pm (tk (fa f)) ≤ fh f := by omega
  have hr : fh f - sm_pop pm (tk (fa f)) < 8 := by
    have hps : sm_ps (tk (fa f)) = 1 := if_pos (by omega)
    rw [b4] at b5
    unfold sm_h2 at b5
    omega
  have hs : sm_s1 xo xj (fa f) = some (fa f + 1) := by
    unfold sm_s1
    rw [if_neg (by omega), if_neg (by omega)]
  have hs2 := (sm_s1f hP hi hs).1
  have tb := (sm_tyb a1 a2 hhb.2 b1 (by omega) (by omega)).mp b3
  rw [hpop, sm_wk7 hK] at tb
  have k0 := tb 0 (by omega)
  have k1 := tb 1 (by omega)
  rw [Nat.zero_testBit] at k0 k1
  rw [show hh (fa f) - 2 + 0 = hh (fa f) - 2 by omega] at k0
  rw [show hh (fa f) - 2 + 1 = hh (fa f) - 1 by omega] at k1
  have vA := (f5 (hh (fa f) - 2) (by omega)).1 k0
  have vB := (f5 (hh (fa f) - 1) (by omega)).1 k1
  have x6e : sm_x6 st f (fh f) = st (f * 8 + (hh (fa f) - 1)) := by
    unfold sm_x6
    rw [if_neg (by omega), f2]
  have x7e : sm_x7 st f (fh f) = st (f * 8 + (hh (fa f) - 2)) := by
    unfold sm_x7
    rw [if_neg (by omega), f2]
  have es : f * 16 + 8 + (hh (fa f) - 2) = f * 16 + 8 + (fh f - sm_pop pm (tk (fa f))) := by omega
  have HH := H
  by_cases c : sl (f * 16 + 8 + (hh (fa f) - 1)) ≤ sl (f * 16 + 8 + (hh (fa f) - 2))
  · have RN' := sm_rnPush (a := 0) (b := 0) hP hL RN (fun _ _ z => z) (Or.inl hs) (by omega) (by rw [sm_pk7 hK]; exact ⟨fun _ => rfl, fun z => absurd z (by decide)⟩)
    rw [← f2] at RN'
    refine sm_OUTi (xle := xle) (xpe := xpe) (sta := 2) (opn := 0) (xch := xch) (xck := xck) (xbc := xbc) (xcb := xcb) (xcc := xcc) (col := col) (res := res) (cp := cp) (lm := lm) (np := np) (nt := nt) (fr := f + 1) (sb := sb) (us := us) (bo := bo) (oc := oc) (pm := pm) (vs := vs) (mk := mk) (fi := fi) (tk := tk) (xo := xo) (xj := xj) (ow := ow) (xh := xh) (xk := xk) (xl := xl) (fp := fp) (fa := sm_u fa f (fa f + 1)) (fh := sm_u fh f (fh f - sm_pop pm (tk (fa f)) + 1)) (cb := cb) (gl := gl) (xbk := xbk) (xbp := xbp) (xbh := xbh) (sl := upd sl (f * 16 + 8 + (fh f - sm_pop pm (tk (fa f)))) 0) (cn := cn) (cl := cl) (cr := cr) (fw := fw) (ou := ou) (lo := lo) (st := upd st (f * 8 + (fh f - sm_pop pm (tk (fa f)))) 0) (he := he) (nu := nu) (lf := lf) (rg := rg) (hh := hh) (kk := kk) (dp := dp) (pt := pt) (hd := hd) ?_ (fun post hp => sm_xs7 h8 hi n160 hxh hh8 hx (by omega) (fun _ => by rw [es]; exact hp) (fun z => absurd c z)) (fun post hp2 yh yd yt yb ys yr => ?_)
    · exact ⟨⟨l1, l2, l3⟩, hmk, hP, hxx, HH, fun z => absurd z (by decide), fun _ => ⟨rfl, n1, hL⟩, fun _ => RN'⟩
    · refine sm_y128 hP h8 hi hf8 (fun x8 e8 => ?_)
      rw [if_neg (show ¬ ((tk (fa f) % 100 = 20 ∨ tk (fa f) % 100 = 23) ∧ _) from fun z => absurd z.1 (by omega)), hs] at e8
      subst e8
      rw [hK]
      exact br_t (by decide) (br_t (by decide) (br_f (by decide) (br_f (by decide) (br_t (nI_pos' (by omega)) (br_f (by decide) (sm_yc7 (fun _ => (sm_y549a hP h8 hi hf8 hp hle (by omega) hr (hp2 yh yd yt yb ys yr))) (fun z => absurd (by rw [x6e, x7e, ← vA, ← vB]; exact c) z)))))))
  · have RN' := sm_rnPush (a := 1) (b := 1) hP hL RN (fun _ _ z => z) (Or.inl hs) (by omega) (by rw [sm_pk7 hK]; exact ⟨fun _ => rfl, fun z => absurd z (by decide)⟩)
    rw [← f2] at RN'
    refine sm_OUTi (xle := xle) (xpe := xpe) (sta := 2) (opn := 0) (xch := xch) (xck := xck) (xbc := xbc) (xcb := xcb) (xcc := xcc) (col := col) (res := res) (cp := cp) (lm := lm) (np := np) (nt := nt) (fr := f + 1) (sb := sb) (us := us) (bo := bo) (oc := oc) (pm := pm) (vs := vs) (mk := mk) (fi := fi) (tk := tk) (xo := xo) (xj := xj) (ow := ow) (xh := xh) (xk := xk) (xl := xl) (fp := fp) (fa := sm_u fa f (fa f + 1)) (fh := sm_u fh f (fh f - sm_pop pm (tk (fa f)) + 1)) (cb := cb) (gl := gl) (xbk := xbk) (xbp := xbp) (xbh := xbh) (sl := upd sl (f * 16 + 8 + (fh f - sm_pop pm (tk (fa f)))) 1) (cn := cn) (cl := cl) (cr := cr) (fw := fw) (ou := ou) (lo := lo) (st := upd st (f * 8 + (fh f - sm_pop pm (tk (fa f)))) 1) (he := he) (nu := nu) (lf := lf) (rg := rg) (hh := hh) (kk := kk) (dp := dp) (pt := pt) (hd := hd) ?_ (fun post hp => sm_xs7 h8 hi n160 hxh hh8 hx (by omega) (fun z => absurd z c) (fun _ => by rw [es]; exact hp)) (fun post hp2 yh yd yt yb ys yr => ?_)
    · exact ⟨⟨l1, l2, l3⟩, hmk, hP, hxx, HH, fun z => absurd z (by decide), fun _ => ⟨rfl, n1, hL⟩, fun _ => RN'⟩
    · refine sm_y128 hP h8 hi hf8 (fun x8 e8 => ?_)
      rw [if_neg (show ¬ ((tk (fa f) % 100 = 20 ∨ tk (fa f) % 100 = 23) ∧ _) from fun z => absurd z.1 (by omega)), hs] at e8
      subst e8
      rw [hK]
      exact br_t (by decide) (br_t (by decide) (br_f (by decide) (br_f (by decide) (br_t (nI_pos' (by omega)) (br_f (by decide) (sm_yc7 (fun z => absurd (by rw [x6e, x7e, ← vA, ← vB] at z; exact z) c) (fun _ => (sm_y549a hP h8 hi hf8 hp hle (by omega) hr (hp2 yh yd yt yb ys yr)))))))))
theorem sm_st8 (R : sm_REL 2 opn xch xck xbc cp lm np nt (f + 1) sb us bo oc pm vs mk fi tk xo xj ow xh xk xl fp fa fh cb gl xbk xbp xbh sl cn cl cr lo st he nu lf rg hh kk dp pt hd) (hx : xo (fa f) = 8) : sm_OUT (fun post => wpX_step post (xle, xpe, nI cp, nI lm, 2, nI np, opn, nI nt, xch, xck, xbc, nI (f + 1), nI sb, nI us, xcb, xcc, col, nI bo, nI oc, res, sm_n pm, sm_n vs, sm_n mk, sm_k gl, sm_n fi, sm_n tk, sm_n xo, sm_n (sm_ar tk), sm_n xj, sm_n ow, sm_n xh, sm_n xk, sm_n xl, xbk, xbp, xbh, sm_n fp, sm_n fa, sl, cn, cl, cr, sm_n cb, fw, ou)) (fun post => ∀ (yh yd : Int32) (yt yb ys yr : Nat → Int32), wpY_step post (nI cp, nI lm, 2, nI np, opn, nI nt, yh, yd, nI (f + 1), nI bo, col, nI oc, res, sm_n tk, sm_n fi, sm_n pm, sm_n vs, sm_n mk, sm_k gl, yt, yb, ys, yr, sm_n fp, sm_n fa, sm_n fh, lo, st, he, nu, lf, rg, ou)) := by
  obtain ⟨⟨l1, l2, l3⟩, hmk, hP, hxx, H, h0, h1, h2⟩ := R
  obtain ⟨rfl, n1, hL⟩ := h1 (by decide)
  have RN := h2 rfl
  obtain ⟨r1, r2, hF⟩ := id RN
  obtain ⟨⟨f1, hi, hp⟩, f2, f3, f4, f5⟩ := hF f (by omega)
  have f2 := f2 rfl
  have n160 := hP.1.2.1
  have h8 : f < 8 := by omega
  have hhb := sm_PH hP (show fa f ≤ nt by omega)
  have hh8 : hh (fa f) ≤ 8 := hhb.1
  have hf8 : fh f ≤ 8 := by omega
  have hxh := (hxx _ hi).1
  obtain ⟨a1, a2, a3, a4, a5, a6, a7⟩ := sm_PA hP hi
  obtain ⟨b1, b2, b3, b4, b5, b6⟩ := sm_PB hP hi
  have hvs := (sm_PQ hP f1).2.2.1
  obtain ⟨⟨p1, p2, p3, p4, psb⟩, q1, q2, q3⟩ := id H
  have hK : tk (fa f) % 100 = 8 := by
    obtain ⟨e1, e2⟩ := sm_xoe hP hi
    by_cases q : tk (fa f) % 100 = 24
    · rcases e2 q with z | z | z <;> omega
    · rw [← e1 q]; exact hx
  have hpop := sm_pop8 (pm := pm) hK
  have hle : sm_pop pm (tk (fa f)) ≤ fh f := by omega
  have hr : fh f - sm_pop pm (tk (fa f)) < 8 := by
    have hps : sm_ps (tk (fa f)) = 1 := if_pos (by omega)
    rw [b4] at b5
    unfold sm_h2 at b5
    omega
  have hs : sm_s1 xo xj (fa f) = some (fa f + 1) := by
    unfold sm_s1
    rw [if_neg (by omega), if_neg (by omega)]
  have hs2 := (sm_s1f hP hi hs).1
  have te := (sm_ty8 hK hhb.2 (by omega)).mp b3
  have hcb : ∀ c, c < us → 1 ≤ cb (sb + 1 + c) ∧ cb (sb + 1 + c) ≤ 120 := fun c hc => ⟨(q1 c hc).1, by have := (q1 c hc).2.1; omega⟩
  have x6e : sm_x6 st f (fh f) = st (f * 8 + (hh (fa f) - 1)) := by
    unfold sm_x6
    rw [if_neg (by omega), f2]
  have x7e : sm_x7 st f (fh f) = st (f * 8 + (hh (fa f) - 2)) := by
    unfold sm_x7
    rw [if_neg (by omega), f2]
  have iff : sl (f * 16 + 8 + (hh (fa f) - 2)) = sl (f * 16 + 8 + (hh (fa f) - 1)) ↔ sm_x7 st f (fh f) = sm_x6 st f (fh f) := by
    rw [x6e, x7e]
    cases hk : (kk (fa f)).testBit (hh (fa f) - 2)
    · rw [hk] at te
      rw [(f5 (hh (fa f) - 2) (by omega)).1 hk, (f5 (hh (fa f) - 1) (by omega)).1 te.symm]
    · rw [hk] at te
      exact sm_VRinj (by omega) (by omega) hcb q2 ((f5 (hh (fa f) - 2) (by omega)).2 hk) ((f5 (hh (fa f) - 1) (by omega)).2 te.symm)
  have es : f * 16 + 8 + (hh (fa f) - 2) = f * 16 + 8 + (fh f - sm_pop pm (tk (fa f))) := by omega
  have HH := H
  by_cases c : sl (f * 16 + 8 + (hh (fa f) - 2)) = sl (f * 16 + 8 + (hh (fa f) - 1))
  · have RN' := sm_rnPush (a := 1) (b := 1) hP hL RN (fun _ _ z => z) (Or.inl hs) (by omega) (by rw [sm_pk8 hK]; exact ⟨fun _ => rfl, fun z => absurd z (by decide)⟩)
    rw [← f2] at RN'
    refine sm_OUTi (xle := xle) (xpe := xpe) (sta := 2) (opn := 0) (xch := xch) (xck := xck) (xbc := xbc) (xcb := xcb) (xcc := xcc) (col := col) (res := res) (cp := cp) (lm := lm) (np := np) (nt := nt) (fr := f + 1) (sb := sb) (us := us) (bo := bo) (oc := oc) (pm := pm) (vs := vs) (mk := mk) (fi := fi) (tk := tk) (xo := xo) (xj := xj) (ow := ow) (xh := xh) (xk := xk) (xl := xl) (fp := fp) (fa := sm_u fa f (fa f + 1)) (fh := sm_u fh f (fh f - sm_pop pm (tk (fa f)) + 1)) (cb := cb) (gl := gl) (xbk := xbk) (xbp := xbp) (xbh := xbh) (sl := upd sl (f * 16 + 8 + (fh f - sm_pop pm (tk (fa f)))) 1) (cn := cn) (cl := cl) (cr := cr) (fw := fw) (ou := ou) (lo := lo) (st := upd st (f * 8 + (fh f - sm_pop pm (tk (fa f)))) 1) (he := he) (nu := nu) (lf := lf) (rg := rg) (hh := hh) (kk := kk) (dp := dp) (pt := pt) (hd := hd) ?_ (fun post hp => sm_xs8 h8 hi n160 hxh hh8 hx (by omega) (fun _ => by rw [es]; exact hp) (fun z => absurd c z)) (fun post hp2 yh yd yt yb ys yr => ?_)
    · exact ⟨⟨l1, l2, l3⟩, hmk, hP, hxx, HH, fun z => absurd z (by decide), fun _ => ⟨rfl, n1, hL⟩, fun _ => RN'⟩
    · refine sm_y128 hP h8 hi hf8 (fun x8 e8 => ?_)
      rw [if_neg (show ¬ ((tk (fa f) % 100 = 20 ∨ tk (fa f) % 100 = 23) ∧ _) from fun z => absurd z.1 (by omega)), hs] at e8
      subst e8
      rw [hK]
      exact br_t (by decide) (br_t (by decide) (br_f (by decide) (br_f (by decide) (br_t (nI_pos' (by omega)) (br_f (by decide) (sm_yc8 (fun _ => (sm_y549a hP h8 hi hf8 hp hle (by omega) hr (hp2 yh yd yt yb ys yr))) (fun z => absurd (iff.mp c) z)))))))
  · have RN' := sm_rnPush (a := 0) (b := 0) hP hL RN (fun _ _ z => z) (Or.inl hs) (by omega) (by rw [sm_pk8 hK]; exact ⟨fun _ => rfl, fun z => absurd z (by decide)⟩)
    rw [← f2] at RN'
    refine sm_OUTi (xle := xle) (xpe := xpe) (sta := 2) (opn := 0) (xch := xch) (xck := xck) (xbc := xbc) (xcb := xcb) (xcc := xcc) (col := col) (res := res) (cp := cp) (lm := lm) (np := np) (nt := nt) (fr := f + 1) (sb := sb) (us := us) (bo := bo) (oc := oc) (pm := pm) (vs := vs) (mk := mk) (fi := fi) (tk := tk) (xo := xo) (xj := xj) (ow := ow) (xh := xh) (xk := xk) (xl := xl) (fp := fp) (fa := sm_u fa f (fa f + 1)) (fh := sm_u fh f (fh f - sm_pop pm (tk (fa f)) + 1)) (cb := cb) (gl := gl) (xbk := xbk) (xbp := xbp) (xbh := xbh) (sl := upd sl (f * 16 + 8 + (fh f - sm_pop pm (tk (fa f)))) 0) (cn := cn) (cl := cl) (cr := cr) (fw := fw) (ou := ou) (lo := lo) (st := upd st (f * 8 + (fh f - sm_pop pm (tk (fa f)))) 0) (he := he) (nu := nu) (lf := lf) (rg := rg) (hh := hh) (kk := kk) (dp := dp) (pt := pt) (hd := hd) ?_ (fun post hp => sm_xs8 h8 hi n160 hxh hh8 hx (by omega) (fun z => absurd z c) (fun _ => by rw [es]; exact hp)) (fun post hp2 yh yd yt yb ys yr => ?_)
    · exact ⟨⟨l1, l2, l3⟩, hmk, hP, hxx, HH, fun z => absurd z (by decide), fun _ => ⟨rfl, n1, hL⟩, fun _ => RN'⟩
    · refine sm_y128 hP h8 hi hf8 (fun x8 e8 => ?_)
      rw [if_neg (show ¬ ((tk (fa f) % 100 = 20 ∨ tk (fa f) % 100 = 23) ∧ _) from fun z => absurd z.1 (by omega)), hs] at e8
      subst e8
      rw [hK]
      exact br_t (by decide) (br_t (by decide) (br_f (by decide) (br_f (by decide) (br_t (nI_pos' (by omega)) (br_f (by decide) (sm_yc8 (fun z => absurd (iff.mpr z) c) (fun _ => (sm_y549a hP h8 hi hf8 hp hle (by omega) hr (hp2 yh yd yt yb ys yr)))))))))
end
end
section
/-! both sides step together (printed by mk30.py) -/
section
variable {xle xpe sta opn xch xck xbc xcb xcc col res yh yd : Int32} {cp lm np nt fr sb us bo oc : Nat} {pm vs mk fi tk xo xj ow xh xk xl fp fa fh cb : Nat → Nat} {gl : Nat → Bool} {xbk xbp xbh sl cn cl cr fw ou yt yb ys yr lo st he nu lf rg : Nat → Int32} {hh kk dp : Nat → Nat} {pt hd : Nat → Nat → Nat}
variable {f : Nat}
theorem sm_st10 (R : sm_REL 2 opn xch xck xbc cp lm np nt (f + 1) sb us bo oc pm vs mk fi tk xo xj ow xh xk xl fp fa fh cb gl xbk xbp xbh sl cn cl cr lo st he nu lf rg hh kk dp pt hd) (hx : xo (fa f) = 10) : sm_OUT (fun post => wpX_step post (xle, xpe, nI cp, nI lm, 2, nI np, opn, nI nt, xch, xck, xbc, nI (f + 1), nI sb, nI us, xcb, xcc, col, nI bo, nI oc, res, sm_n pm, sm_n vs, sm_n mk, sm_k gl, sm_n fi, sm_n tk, sm_n xo, sm_n (sm_ar tk), sm_n xj, sm_n ow, sm_n xh, sm_n xk, sm_n xl, xbk, xbp, xbh, sm_n fp, sm_n fa, sl, cn, cl, cr, sm_n cb, fw, ou)) (fun post => ∀ (yh yd : Int32) (yt yb ys yr : Nat → Int32), wpY_step post (nI cp, nI lm, 2, nI np, opn, nI nt, yh, yd, nI (f + 1), nI bo, col, nI oc, res, sm_n tk, sm_n fi, sm_n pm, sm_n vs, sm_n mk, sm_k gl, yt, yb, ys, yr, sm_n fp, sm_n fa, sm_n fh, lo, st, he, nu, lf, rg, ou)) := by
  obtain ⟨⟨l1, l2, l3⟩, hmk, hP, hxx, H, h0, h1, h2⟩ := R
  obtain ⟨rfl, n1, hL⟩ := h1 (by decide)
  have RN := h2 rfl
  obtain ⟨r1, r2, hF⟩ := id RN
  obtain ⟨⟨f1, hi, hp⟩, f2, f3, f4, f5⟩ := hF f (by omega)
  have f2 := f2 rfl
  have n160 := hP.1.2.1
  have h8 : f < 8 := by omega
  have hhb := sm_PH hP (show fa f ≤ nt by omega)
  have hh8 : hh (fa f) ≤ 8 := hhb.1
  have hf8 : fh f ≤ 8 := by omega
  have hxh := (hxx _ hi).1
  obtain ⟨a1, a2, a3, a4, a5, a6, a7⟩ := sm_PA hP hi
  obtain ⟨b1, b2, b3, b4, b5, b6⟩ := sm_PB hP hi
  have hvs := (sm_PQ hP f1).2.2.1
  obtain ⟨⟨p1, p2, p3, p4, psb⟩, q1, q2, q3⟩ := id H
  have hK : tk (fa f) % 100 = 10 := by
    obtain ⟨e1, e2⟩ := sm_xoe hP hi
    by_cases q : tk (fa f) % 100 = 24
    · rcases e2 q with z | z | z <;> omega
    · rw [← e1 q]; exact hx
  have hpop := sm_pop10 (pm := pm) hK
  have hle : sm_pop pm (tk (fa f)) ≤ fh f := by omega
  have hr : fh f - sm_pop pm (tk (fa f)) < 8 := by
    have hps : sm_ps (tk (fa f)) = 1 := if_pos (by omega)
    rw [b4] at b5
    unfold sm_h2 at b5
    omega
  have hs : sm_s1 xo xj (fa f) = some (fa f + 1) := by
    unfold sm_s1
    rw [if_neg (by omega), if_neg (by omega)]
  have hs2 := (sm_s1f hP hi hs).1
  have x6e : sm_x6 st f (fh f) = st (f * 8 + (hh (fa f) - 1)) := by
    unfold sm_x6
    rw [if_neg (by omega), f2]
  have tb := (sm_tyb a1 a2 hhb.2 b1 (by omega) (by omega)).mp b3
  rw [hpop, sm_wk10 hK] at tb
  have k0 := tb 0 (by omega)
  rw [show hh (fa f) - 1 + 0 = hh (fa f) - 1 by omega] at k0
  have vr := (f5 (hh (fa f) - 1) (by omega)).2 k0
  rcases vr with ⟨va0, vb0⟩ | ⟨c, c1, va, vb⟩
  · refine sm_OUTi (xle := xle) (xpe := xpe) (sta := 4) (opn := 0) (xch := xch) (xck := xck) (xbc := xbc) (xcb := xcb) (xcc := xcc) (col := col) (res := res) (cp := cp) (lm := lm) (np := np) (nt := nt) (fr := f + 1) (sb := sb) (us := us) (bo := bo) (oc := oc) (pm := pm) (vs := vs) (mk := mk) (fi := fi) (tk := tk) (xo := xo) (xj := xj) (ow := ow) (xh := xh) (xk := xk) (xl := xl) (fp := fp) (fa := fa) (fh := fh) (cb := cb) (gl := gl) (xbk := xbk) (xbp := xbp) (xbh := xbh) (sl := sl) (cn := cn) (cl := cl) (cr := cr) (fw := fw) (ou := ou) (lo := lo) (st := st) (he := he) (nu := nu) (lf := lf) (rg := rg) (hh := hh) (kk := kk) (dp := dp) (pt := pt) (hd := hd) ?_ (fun post hp => sm_xsR h8 hi n160 hxh hh8 (by omega) (by omega) va0 hp) (fun post hp2 yh yd yt yb ys yr => ?_)
    · exact ⟨⟨l1, l2, l3⟩, hmk, hP, hxx, H, fun z => absurd z (by decide), fun _ => ⟨rfl, n1, hL⟩, fun z => absurd z (by decide)⟩
    · refine sm_y128 hP h8 hi hf8 (fun x8 e8 => ?_)
      rw [hK]
      exact br_f (by decide) (br_f (by decide) (br_t (by rw [x6e]; exact vb0) (hp2 yh yd yt yb ys yr)))
  · obtain ⟨d1, d2, d3, d4, d5, d6⟩ := q1 c c1
    have es : f * 16 + 8 + (hh (fa f) - 1) = f * 16 + 8 + (fh f - sm_pop pm (tk (fa f))) := by omega
    have x6n : ¬ sm_x6 st f (fh f) = 0 := by rw [x6e, vb]; exact nI_ne0 (by omega) (by omega)
    have RN' := sm_rnPush (a := cn (sb + 1 + c)) (b := nu (cb (sb + 1 + c))) hP hL RN (fun _ _ z => z) (Or.inl hs) (by omega) (by rw [sm_pk10 hK]; exact ⟨fun _ => d4.symm, fun z => absurd z (by decide)⟩)
    rw [← f2] at RN'
    have HH := H
    refine sm_OUTi (xle := xle) (xpe := xpe) (sta := 2) (opn := 0) (xch := xch) (xck := xck) (xbc := xbc) (xcb := xcb) (xcc := xcc) (col := col) (res := res) (cp := cp) (lm := lm) (np := np) (nt := nt) (fr := f + 1) (sb := sb) (us := us) (bo := bo) (oc := oc) (pm := pm) (vs := vs) (mk := mk) (fi := fi) (tk := tk) (xo := xo) (xj := xj) (ow := ow) (xh := xh) (xk := xk) (xl := xl) (fp := fp) (fa := sm_u fa f (fa f + 1)) (fh := sm_u fh f (fh f - sm_pop pm (tk (fa f)) + 1)) (cb := cb) (gl := gl) (xbk := xbk) (xbp := xbp) (xbh := xbh) (sl := upd sl (f * 16 + 8 + (fh f - sm_pop pm (tk (fa f)))) (cn (sb + 1 + c))) (cn := cn) (cl := cl) (cr := cr) (fw := fw) (ou := ou) (lo := lo) (st := upd st (f * 8 + (fh f - sm_pop pm (tk (fa f)))) (nu (cb (sb + 1 + c)))) (he := he) (nu := nu) (lf := lf) (rg := rg) (hh := hh) (kk := kk) (dp := dp) (pt := pt) (hd := hd) ?_ (fun post hp => sm_xs10 h8 hi n160 hxh hh8 hx (by omega) va (by omega) (by omega) (by rw [es]; exact hp)) (fun post hp2 yh yd yt yb ys yr => ?_)
    · exact ⟨⟨l1, l2, l3⟩, hmk, hP, hxx, HH, fun z => absurd z (by decide), fun _ => ⟨rfl, n1, hL⟩, fun _ => RN'⟩
    · refine sm_y128 hP h8 hi hf8 (fun x8 e8 => ?_)
      rw [if_neg (show ¬ ((tk (fa f) % 100 = 20 ∨ tk (fa f) % 100 = 23) ∧ _) from fun z => absurd z.1 (by omega)), hs] at e8
      subst e8
      rw [hK]
      exact br_f (by decide) (br_f (by decide) (br_f x6n (br_t (by decide) (br_f (by decide) (br_f (by decide) (br_t (nI_pos' (by omega)) (br_f (by decide) (sm_yc10 (k := cb (sb + 1 + c)) (by rw [x6e]; exact vb) (by omega) (sm_y549a hP h8 hi hf8 hp hle (by omega) hr (hp2 yh yd yt yb ys yr))))))))))
theorem sm_st11 (R : sm_REL 2 opn xch xck xbc cp lm np nt (f + 1) sb us bo oc pm vs mk fi tk xo xj ow xh xk xl fp fa fh cb gl xbk xbp xbh sl cn cl cr lo st he nu lf rg hh kk dp pt hd) (hx : xo (fa f) = 11) : sm_OUT (fun post => wpX_step post (xle, xpe, nI cp, nI lm, 2, nI np, opn, nI nt, xch, xck, xbc, nI (f + 1), nI sb, nI us, xcb, xcc, col, nI bo, nI oc, res, sm_n pm, sm_n vs, sm_n mk, sm_k gl, sm_n fi, sm_n tk, sm_n xo, sm_n (sm_ar tk), sm_n xj, sm_n ow, sm_n xh, sm_n xk, sm_n xl, xbk, xbp, xbh, sm_n fp, sm_n fa, sl, cn, cl, cr, sm_n cb, fw, ou)) (fun post => ∀ (yh yd : Int32) (yt yb ys yr : Nat → Int32), wpY_step post (nI cp, nI lm, 2, nI np, opn, nI nt, yh, yd, nI (f + 1), nI bo, col, nI oc, res, sm_n tk, sm_n fi, sm_n pm, sm_n vs, sm_n mk, sm_k gl, yt, yb, ys, yr, sm_n fp, sm_n fa, sm_n fh, lo, st, he, nu, lf, rg, ou)) := by
  obtain ⟨⟨l1, l2, l3⟩, hmk, hP, hxx, H, h0, h1, h2⟩ := R
  obtain ⟨rfl, n1, hL⟩ := h1 (by decide)
  have RN := h2 rfl
  obtain ⟨r1, r2, hF⟩ := id RN
  obtain ⟨⟨f1, hi, hp⟩, f2, f3, f4, f5⟩ := hF f (by omega)
  have f2 := f2 rfl
  have n160 := hP.1.2.1
  have h8 : f < 8 := by omega
  have hhb := sm_PH hP (show fa f ≤ nt by omega)
  have hh8 : hh (fa f) ≤ 8 := hhb.1
  have hf8 : fh f ≤ 8 := by omega
  have hxh := (hxx _ hi).1
  obtain ⟨a1, a2, a3, a4, a5, a6, a7⟩ := sm_PA hP hi
  obtain ⟨b1, b2, b3, b4, b5, b6⟩ := sm_PB hP hi
  have hvs := (sm_PQ hP f1).2.2.1
  obtain ⟨⟨p1, p2, p3, p4, psb⟩, q1, q2, q3⟩ := id H
  have hK : tk (fa f) % 100 = 11 := by
    obtain ⟨e1, e2⟩ := sm_xoe hP hi
    by_cases q : tk (fa f) % 100 = 24
    · rcases e2 q with z | z | z <;> omega
    · rw [← e1 q]; exact hx
  have hpop := sm_pop11 (pm := pm) hK
  have hle : sm_pop pm (tk (fa f)) ≤ fh f := by omega
  have hr : fh f - sm_pop pm (tk (fa f)) < 8 := by
    have hps : sm_ps (tk (fa f)) = 1 := if_pos (by omega)
    rw [b4] at b5
    unfold sm_h2 at b5
    omega
  have hs : sm_s1 xo xj (fa f) = some (fa f + 1) := by
    unfold sm_s1
    rw [if_neg (by omega), if_neg (by omega)]
  have hs2 := (sm_s1f hP hi hs).1
  have x6e : sm_x6 st f (fh f) = st (f * 8 + (hh (fa f) - 1)) := by
    unfold sm_x6
    rw [if_neg (by omega), f2]
  have tb := (sm_tyb a1 a2 hhb.2 b1 (by omega) (by omega)).mp b3
  rw [hpop, sm_wk11 hK] at tb
  have k0 := tb 0 (by omega)
  rw [show hh (fa f) - 1 + 0 = hh (fa f) - 1 by omega] at k0
  have vr := (f5 (hh (fa f) - 1) (by omega)).2 k0
  rcases vr with ⟨va0, vb0⟩ | ⟨c, c1, va, vb⟩
  · refine sm_OUTi (xle := xle) (xpe := xpe) (sta := 4) (opn := 0) (xch := xch) (xck := xck) (xbc := xbc) (xcb := xcb) (xcc := xcc) (col := col) (res := res) (cp := cp) (lm := lm) (np := np) (nt := nt) (fr := f + 1) (sb := sb) (us := us) (bo := bo) (oc := oc) (pm := pm) (vs := vs) (mk := mk) (fi := fi) (tk := tk) (xo := xo) (xj := xj) (ow := ow) (xh := xh) (xk := xk) (xl := xl) (fp := fp) (fa := fa) (fh := fh) (cb := cb) (gl := gl) (xbk := xbk) (xbp := xbp) (xbh := xbh) (sl := sl) (cn := cn) (cl := cl) (cr := cr) (fw := fw) (ou := ou) (lo := lo) (st := st) (he := he) (nu := nu) (lf := lf) (rg := rg) (hh := hh) (kk := kk) (dp := dp) (pt := pt) (hd := hd) ?_ (fun post hp => sm_xsR h8 hi n160 hxh hh8 (by omega) (by omega) va0 hp) (fun post hp2 yh yd yt yb ys yr => ?_)
    · exact ⟨⟨l1, l2, l3⟩, hmk, hP, hxx, H, fun z => absurd z (by decide), fun _ => ⟨rfl, n1, hL⟩, fun z => absurd z (by decide)⟩
    · refine sm_y128 hP h8 hi hf8 (fun x8 e8 => ?_)
      rw [hK]
      exact br_f (by decide) (br_f (by decide) (br_t (by rw [x6e]; exact vb0) (hp2 yh yd yt yb ys yr)))
  · obtain ⟨d1, d2, d3, d4, d5, d6⟩ := q1 c c1
    have es : f * 16 + 8 + (hh (fa f) - 1) = f * 16 + 8 + (fh f - sm_pop pm (tk (fa f))) := by omega
    have x6n : ¬ sm_x6 st f (fh f) = 0 := by rw [x6e, vb]; exact nI_ne0 (by omega) (by omega)
    have RN' := sm_rnPush (a := cl (sb + 1 + c)) (b := lf (cb (sb + 1 + c))) hP hL RN (fun _ _ z => z) (Or.inl hs) (by omega) (by rw [sm_pk11 hK]; exact ⟨fun z => absurd z (by decide), fun _ => d5⟩)
    rw [← f2] at RN'
    have HH := H
    refine sm_OUTi (xle := xle) (xpe := xpe) (sta := 2) (opn := 0) (xch := xch) (xck := xck) (xbc := xbc) (xcb := xcb) (xcc := xcc) (col := col) (res := res) (cp := cp) (lm := lm) (np := np) (nt := nt) (fr := f + 1) (sb := sb) (us := us) (bo := bo) (oc := oc) (pm := pm) (vs := vs) (mk := mk) (fi := fi) (tk := tk) (xo := xo) (xj := xj) (ow := ow) (xh := xh) (xk := xk) (xl := xl) (fp := fp) (fa := sm_u fa f (fa f + 1)) (fh := sm_u fh f (fh f - sm_pop pm (tk (fa f)) + 1)) (cb := cb) (gl := gl) (xbk := xbk) (xbp := xbp) (xbh := xbh) (sl := upd sl (f * 16 + 8 + (fh f - sm_pop pm (tk (fa f)))) (cl (sb + 1 + c))) (cn := cn) (cl := cl) (cr := cr) (fw := fw) (ou := ou) (lo := lo) (st := upd st (f * 8 + (fh f - sm_pop pm (tk (fa f)))) (lf (cb (sb + 1 + c)))) (he := he) (nu := nu) (lf := lf) (rg := rg) (hh := hh) (kk := kk) (dp := dp) (pt := pt) (hd := hd) ?_ (fun post hp => sm_xs11 h8 hi n160 hxh hh8 hx (by omega) va (by omega) (by omega) (by rw [es]; exact hp)) (fun post hp2 yh yd yt yb ys yr => ?_)
    · exact ⟨⟨l1, l2, l3⟩, hmk, hP, hxx, HH, fun z => absurd z (by decide), fun _ => ⟨rfl, n1, hL⟩, fun _ => RN'⟩
    · refine sm_y128 hP h8 hi hf8 (fun x8 e8 => ?_)
      rw [if_neg (show ¬ ((tk (fa f) % 100 = 20 ∨ tk (fa f) % 100 = 23) ∧ _) from fun z => absurd z.1 (by omega)), hs] at e8
      subst e8
      rw [hK]
      exact br_f (by decide) (br_f (by decide) (br_f x6n (br_t (by decide) (br_f (by decide) (br_f (by decide) (br_t (nI_pos' (by omega)) (br_f (by decide) (sm_yc11 (k := cb (sb + 1 + c)) (by rw [x6e]; exact vb) (by omega) (sm_y549a hP h8 hi hf8 hp hle (by omega) hr (hp2 yh yd yt yb ys yr))))))))))
theorem sm_st12 (R : sm_REL 2 opn xch xck xbc cp lm np nt (f + 1) sb us bo oc pm vs mk fi tk xo xj ow xh xk xl fp fa fh cb gl xbk xbp xbh sl cn cl cr lo st he nu lf rg hh kk dp pt hd) (hx : xo (fa f) = 12) : sm_OUT (fun post => wpX_step post (xle, xpe, nI cp, nI lm, 2, nI np, opn, nI nt, xch, xck, xbc, nI (f + 1), nI sb, nI us, xcb, xcc, col, nI bo, nI oc, res, sm_n pm, sm_n vs, sm_n mk, sm_k gl, sm_n fi, sm_n tk, sm_n xo, sm_n (sm_ar tk), sm_n xj, sm_n ow, sm_n xh, sm_n xk, sm_n xl, xbk, xbp, xbh, sm_n fp, sm_n fa, sl, cn, cl, cr, sm_n cb, fw, ou)) (fun post => ∀ (yh yd : Int32) (yt yb ys yr : Nat → Int32), wpY_step post (nI cp, nI lm, 2, nI np, opn, nI nt, yh, yd, nI (f + 1), nI bo, col, nI oc, res, sm_n tk, sm_n fi, sm_n pm, sm_n vs, sm_n mk, sm_k gl, yt, yb, ys, yr, sm_n fp, sm_n fa, sm_n fh, lo, st, he, nu, lf, rg, ou)) := by
  obtain ⟨⟨l1, l2, l3⟩, hmk, hP, hxx, H, h0, h1, h2⟩ := R
  obtain ⟨rfl, n1, hL⟩ := h1 (by decide)
  have RN := h2 rfl
  obtain ⟨r1, r2, hF⟩ := id RN
  obtain ⟨⟨f1, hi, hp⟩, f2, f3, f4, f5⟩ := hF f (by omega)
  have f2 := f2 rfl
  have n160 := hP.1.2.1
  have h8 : f < 8 := by omega
  have hhb := sm_PH hP (show fa f ≤ nt by omega)
  have hh8 : hh (fa f) ≤ 8 := hhb.1
  have hf8 : fh f ≤ 8 := by omega
  have hxh := (hxx _ hi).1
  obtain ⟨a1, a2, a3, a4, a5, a6, a7⟩ := sm_PA hP hi
  obtain ⟨b1, b2, b3, b4, b5, b6⟩ := sm_PB hP hi
  have hvs := (sm_PQ hP f1).2.2.1
  obtain ⟨⟨p1, p2, p3, p4, psb⟩, q1, q2, q3⟩ := id H
  have hK : tk (fa f) % 100 = 12 := by
    obtain ⟨e1, e2⟩ := sm_xoe hP hi
    by_cases q : tk (fa f) % 100 = 24
    · rcases e2 q with z | z | z <;> omega
    · rw [← e1 q]; exact hx
  have hpop := sm_pop12 (pm := pm) hK
  have hle : sm_pop pm (tk (fa f)) ≤ fh f := by omega
  have hr : fh f - sm_pop pm (tk (fa f)) < 8 := by
    have hps : sm_ps (tk (fa f)) = 1 := if_pos (by omega)
    rw [b4] at b5
    unfold sm_h2 at b5
    omega
  have hs : sm_s1 xo xj (fa f) = some (fa f + 1) := by
    unfold sm_s1
    rw [if_neg (by omega), if_neg (by omega)]
  have hs2 := (sm_s1f hP hi hs).1
  have x6e : sm_x6 st f (fh f) = st (f * 8 + (hh (fa f) - 1)) := by
    unfold sm_x6
    rw [if_neg (by omega), f2]
  have tb := (sm_tyb a1 a2 hhb.2 b1 (by omega) (by omega)).mp b3
  rw [hpop, sm_wk12 hK] at tb
  have k0 := tb 0 (by omega)
  rw [show hh (fa f) - 1 + 0 = hh (fa f) - 1 by omega] at k0
  have vr := (f5 (hh (fa f) - 1) (by omega)).2 k0
  rcases vr with ⟨va0, vb0⟩ | ⟨c, c1, va, vb⟩
  · refine sm_OUTi (xle := xle) (xpe := xpe) (sta := 4) (opn := 0) (xch := xch) (xck := xck) (xbc := xbc) (xcb := xcb) (xcc := xcc) (col := col) (res := res) (cp := cp) (lm := lm) (np := np) (nt := nt) (fr := f + 1) (sb := sb) (us := us) (bo := bo) (oc := oc) (pm := pm) (vs := vs) (mk := mk) (fi := fi) (tk := tk) (xo := xo) (xj := xj) (ow := ow) (xh := xh) (xk := xk) (xl := xl) (fp := fp) (fa := fa) (fh := fh) (cb := cb) (gl := gl) (xbk := xbk) (xbp := xbp) (xbh := xbh) (sl := sl) (cn := cn) (cl := cl) (cr := cr) (fw := fw) (ou := ou) (lo := lo) (st := st) (he := he) (nu := nu) (lf := lf) (rg := rg) (hh := hh) (kk := kk) (dp := dp) (pt := pt) (hd := hd) ?_ (fun post hp => sm_xsR h8 hi n160 hxh hh8 (by omega) (by omega) va0 hp) (fun post hp2 yh yd yt yb ys yr => ?_)
    · exact ⟨⟨l1, l2, l3⟩, hmk, hP, hxx, H, fun z => absurd z (by decide), fun _ => ⟨rfl, n1, hL⟩, fun z => absurd z (by decide)⟩
    · refine sm_y128 hP h8 hi hf8 (fun x8 e8 => ?_)
      rw [hK]
      exact br_f (by decide) (br_f (by decide) (br_t (by rw [x6e]; exact vb0) (hp2 yh yd yt yb ys yr)))
  · obtain ⟨d1, d2, d3, d4, d5, d6⟩ := q1 c c1
    have es : f * 16 + 8 + (hh (fa f) - 1) = f * 16 + 8 + (fh f - sm_pop pm (tk (fa f))) := by omega
    have x6n : ¬ sm_x6 st f (fh f) = 0 := by rw [x6e, vb]; exact nI_ne0 (by omega) (by omega)
    have RN' := sm_rnPush (a := cr (sb + 1 + c)) (b := rg (cb (sb + 1 + c))) hP hL RN (fun _ _ z => z) (Or.inl hs) (by omega) (by rw [sm_pk12 hK]; exact ⟨fun z => absurd z (by decide), fun _ => d6⟩)
    rw [← f2] at RN'
    have HH := H
    refine sm_OUTi (xle := xle) (xpe := xpe) (sta := 2) (opn := 0) (xch := xch) (xck := xck) (xbc := xbc) (xcb := xcb) (xcc := xcc) (col := col) (res := res) (cp := cp) (lm := lm) (np := np) (nt := nt) (fr := f + 1) (sb := sb) (us := us) (bo := bo) (oc := oc) (pm := pm) (vs := vs) (mk := mk) (fi := fi) (tk := tk) (xo := xo) (xj := xj) (ow := ow) (xh := xh) (xk := xk) (xl := xl) (fp := fp) (fa := sm_u fa f (fa f + 1)) (fh := sm_u fh f (fh f - sm_pop pm (tk (fa f)) + 1)) (cb := cb) (gl := gl) (xbk := xbk) (xbp := xbp) (xbh := xbh) (sl := upd sl (f * 16 + 8 + (fh f - sm_pop pm (tk (fa f)))) (cr (sb + 1 + c))) (cn := cn) (cl := cl) (cr := cr) (fw := fw) (ou := ou) (lo := lo) (st := upd st (f * 8 + (fh f - sm_pop pm (tk (fa f)))) (rg (cb (sb + 1 + c)))) (he := he) (nu := nu) (lf := lf) (rg := rg) (hh := hh) (kk := kk) (dp := dp) (pt := pt) (hd := hd) ?_ (fun post hp => sm_xs12 h8 hi n160 hxh hh8 hx (by omega) va (by omega) (by omega) (by rw [es]; exact hp)) (fun post hp2 yh yd yt yb ys yr => ?_)
    · exact ⟨⟨l1, l2, l3⟩, hmk, hP, hxx, HH, fun z => absurd z (by decide), fun _ => ⟨rfl, n1, hL⟩, fun _ => RN'⟩
    · refine sm_y128 hP h8 hi hf8 (fun x8 e8 => ?_)
      rw [if_neg (show ¬ ((tk (fa f) % 100 = 20 ∨ tk (fa f) % 100 = 23) ∧ _) from fun z => absurd z.1 (by omega)), hs] at e8
      subst e8
      rw [hK]
      exact br_f (by decide) (br_f (by decide) (br_f x6n (br_t (by decide) (br_f (by decide) (br_f (by decide) (br_t (nI_pos' (by omega)) (br_f (by decide) (sm_yc12 (k := cb (sb + 1 + c)) (by rw [x6e]; exact vb) (by omega) (sm_y549a hP h8 hi hf8 hp hle (by omega) hr (hp2 yh yd yt yb ys yr))))))))))
theorem sm_st14 (R : sm_REL 2 opn xch xck xbc cp lm np nt (f + 1) sb us bo oc pm vs mk fi tk xo xj ow xh xk xl fp fa fh cb gl xbk xbp xbh sl cn cl cr lo st he nu lf rg hh kk dp pt hd) (hx : xo (fa f) = 14) : sm_OUT (fun post => wpX_step post (xle, xpe, nI cp, nI lm, 2, nI np, opn, nI nt, xch, xck, xbc, nI (f + 1), nI sb, nI us, xcb, xcc, col, nI bo, nI oc, res, sm_n pm, sm_n vs, sm_n mk, sm_k gl, sm_n fi, sm_n tk, sm_n xo, sm_n (sm_ar tk), sm_n xj, sm_n ow, sm_n xh, sm_n xk, sm_n xl, xbk, xbp, xbh, sm_n fp, sm_n fa, sl, cn, cl, cr, sm_n cb, fw, ou)) (fun post => ∀ (yh yd : Int32) (yt yb ys yr : Nat → Int32), wpY_step post (nI cp, nI lm, 2, nI np, opn, nI nt, yh, yd, nI (f + 1), nI bo, col, nI oc, res, sm_n tk, sm_n fi, sm_n pm, sm_n vs, sm_n mk, sm_k gl, yt, yb, ys, yr, sm_n fp, sm_n fa, sm_n fh, lo, st, he, nu, lf, rg, ou)) := by
  obtain ⟨⟨l1, l2, l3⟩, hmk, hP, hxx, H, h0, h1, h2⟩ := R
  obtain ⟨rfl, n1, hL⟩ := h1 (by decide)
  have RN := h2 rfl
  obtain ⟨r1, r2, hF⟩ := id RN
  obtain ⟨⟨f1, hi, hp⟩, f2, f3, f4, f5⟩ := hF f (by omega)
  have f2 := f2 rfl
  have n160 := hP.1.2.1
  have h8 : f < 8 := by omega
  have hhb := sm_PH hP (show fa f ≤ nt by omega)
  have hh8 : hh (fa f) ≤ 8 := hhb.1
  have hf8 : fh f ≤ 8 := by omega
  have hxh := (hxx _ hi).1
  obtain ⟨a1, a2, a3, a4, a5, a6, a7⟩ := sm_PA hP hi
  obtain ⟨b1, b2, b3, b4, b5, b6⟩ := sm_PB hP hi
  have hvs := (sm_PQ hP f1).2.2.1
  obtain ⟨⟨p1, p2, p3, p4, psb⟩, q1, q2, q3⟩ := id H
  have hK : tk (fa f) % 100 = 14 := by
    obtain ⟨e1, e2⟩ := sm_xoe hP hi
    by_cases q : tk (fa f) % 100 = 24
    · rcases e2 q with z | z | z <;> omega
    · rw [← e1 q]; exact hx
  have hpop := sm_pop14 (pm := pm) hK
  have hle : sm_pop pm (tk (fa f)) ≤ fh f := by omega
  have hs : sm_s1 xo xj (fa f) = some (fa f + 1) := by
    unfold sm_s1
    rw [if_neg (by omega), if_neg (by omega)]
  have hs2 := (sm_s1f hP hi hs).1
  have x6e : sm_x6 st f (fh f) = st (f * 8 + (hh (fa f) - 1)) := by
    unfold sm_x6
    rw [if_neg (by omega), f2]
  have ha := a5 (Or.inr hK)
  rw [hp] at ha
  have tb := (sm_tyb a1 a2 hhb.2 b1 (by omega) (by omega)).mp b3
  rw [hpop, sm_wk14 hK, hp] at tb
  have k0 := tb 0 (by omega)
  rw [show hh (fa f) - 1 + 0 = hh (fa f) - 1 by omega] at k0
  have k1 : (kk (fa f)).testBit (hh (fa f) - 1) = (mk (fp f)).testBit (tk (fa f) / 100) := by
    rw [k0]
    cases (mk (fp f)).testBit (tk (fa f) / 100) <;> rfl
  have vk := f5 (hh (fa f) - 1) (by omega)
  rw [k1] at vk
  obtain ⟨va, ea⟩ : ∃ va : Int32, va = sl (f * 16 + 8 + (hh (fa f) - 1)) := ⟨_, rfl⟩
  obtain ⟨vb, eb⟩ : ∃ vb : Int32, vb = st (f * 8 + (hh (fa f) - 1)) := ⟨_, rfl⟩
  rw [← ea, ← eb] at vk
  have RN' := sm_rnSet (a := va) (b := vb) hP hL RN (Or.inl hs) hK vk
  rw [← f2] at RN'
  have HH := H
  refine sm_OUTi (xle := xle) (xpe := xpe) (sta := 2) (opn := 0) (xch := xch) (xck := xck) (xbc := xbc) (xcb := xcb) (xcc := xcc) (col := col) (res := res) (cp := cp) (lm := lm) (np := np) (nt := nt) (fr := f + 1) (sb := sb) (us := us) (bo := bo) (oc := oc) (pm := pm) (vs := vs) (mk := mk) (fi := fi) (tk := tk) (xo := xo) (xj := xj) (ow := ow) (xh := xh) (xk := xk) (xl := xl) (fp := fp) (fa := sm_u fa f (fa f + 1)) (fh := sm_u fh f (fh f - sm_pop pm (tk (fa f)))) (cb := cb) (gl := gl) (xbk := xbk) (xbp := xbp) (xbh := xbh) (sl := upd sl (f * 16 + tk (fa f) / 100) va) (cn := cn) (cl := cl) (cr := cr) (fw := fw) (ou := ou) (lo := upd lo (f * 8 + tk (fa f) / 100) vb) (st := st) (he := he) (nu := nu) (lf := lf) (rg := rg) (hh := hh) (kk := kk) (dp := dp) (pt := pt) (hd := hd) ?_ (fun post hp => sm_xs14 h8 hi n160 hxh hh8 hx (by omega) (by omega) (by rw [← ea]; exact hp)) (fun post hp2 yh yd yt yb ys yr => ?_)
  · exact ⟨⟨l1, l2, l3⟩, hmk, hP, hxx, HH, fun z => absurd z (by decide), fun _ => ⟨rfl, n1, hL⟩, fun _ => RN'⟩
  · refine sm_y128 hP h8 hi hf8 (fun x8 e8 => ?_)
    rw [if_neg (show ¬ ((tk (fa f) % 100 = 20 ∨ tk (fa f) % 100 = 23) ∧ _) from fun z => absurd z.1 (by omega)), hs] at e8
    subst e8
    rw [hK]
    exact br_f (by decide) (br_t (by decide) (br_t (by decide) (br_f (by decide) (br_f (by decide) (br_t (nI_pos' (by omega)) (br_f (by decide) (sm_yc14 (k := f * 8 + tk (fa f) / 100) (by rw [sm_mu8, nI_add]) (by omega) (by rw [x6e, ← eb]; exact (sm_y549b hP h8 hi hf8 hp hle (by omega) (hp2 yh yd yt yb ys yr))))))))))
theorem sm_st15 (R : sm_REL 2 opn xch xck xbc cp lm np nt (f + 1) sb us bo oc pm vs mk fi tk xo xj ow xh xk xl fp fa fh cb gl xbk xbp xbh sl cn cl cr lo st he nu lf rg hh kk dp pt hd) (hx : xo (fa f) = 15) : sm_OUT (fun post => wpX_step post (xle, xpe, nI cp, nI lm, 2, nI np, opn, nI nt, xch, xck, xbc, nI (f + 1), nI sb, nI us, xcb, xcc, col, nI bo, nI oc, res, sm_n pm, sm_n vs, sm_n mk, sm_k gl, sm_n fi, sm_n tk, sm_n xo, sm_n (sm_ar tk), sm_n xj, sm_n ow, sm_n xh, sm_n xk, sm_n xl, xbk, xbp, xbh, sm_n fp, sm_n fa, sl, cn, cl, cr, sm_n cb, fw, ou)) (fun post => ∀ (yh yd : Int32) (yt yb ys yr : Nat → Int32), wpY_step post (nI cp, nI lm, 2, nI np, opn, nI nt, yh, yd, nI (f + 1), nI bo, col, nI oc, res, sm_n tk, sm_n fi, sm_n pm, sm_n vs, sm_n mk, sm_k gl, yt, yb, ys, yr, sm_n fp, sm_n fa, sm_n fh, lo, st, he, nu, lf, rg, ou)) := by
  obtain ⟨⟨l1, l2, l3⟩, hmk, hP, hxx, H, h0, h1, h2⟩ := R
  obtain ⟨rfl, n1, hL⟩ := h1 (by decide)
  have RN := h2 rfl
  obtain ⟨r1, r2, hF⟩ := id RN
  obtain ⟨⟨f1, hi, hp⟩, f2, f3, f4, f5⟩ := hF f (by omega)
  have f2 := f2 rfl
  have n160 := hP.1.2.1
  have h8 : f < 8 := by omega
  have hhb := sm_PH hP (show fa f ≤ nt by omega)
  have hh8 : hh (fa f) ≤ 8 := hhb.1
  have hf8 : fh f ≤ 8 := by omega
  have hxh := (hxx _ hi).1
  obtain ⟨a1, a2, a3, a4, a5, a6, a7⟩ := sm_PA hP hi
  obtain ⟨b1, b2, b3, b4, b5, b6⟩ := sm_PB hP hi
  have hvs := (sm_PQ hP f1).2.2.1
  obtain ⟨⟨p1, p2, p3, p4, psb⟩, q1, q2, q3⟩ := id H
  have hK : tk (fa f) % 100 = 15 := by
    obtain ⟨e1, e2⟩ := sm_xoe hP hi
    by_cases q : tk (fa f) % 100 = 24
    · rcases e2 q with z | z | z <;> omega
    · rw [← e1 q]; exact hx
  have hpop := sm_pop15 (pm := pm) hK
  have hle : sm_pop pm (tk (fa f)) ≤ fh f := by omega
  have hs : sm_s1 xo xj (fa f) = some (fa f + 1) := by
    unfold sm_s1
    rw [if_neg (by omega), if_neg (by omega)]
  have hs2 := (sm_s1f hP hi hs).1
  have x6e : sm_x6 st f (fh f) = st (f * 8 + (hh (fa f) - 1)) := by
    unfold sm_x6
    rw [if_neg (by omega), f2]
  have x7e : sm_x7 st f (fh f) = st (f * 8 + (hh (fa f) - 2)) := by
    unfold sm_x7
    rw [if_neg (by omega), f2]
  have tb := (sm_tyb a1 a2 hhb.2 b1 (by omega) (by omega)).mp b3
  rw [hpop, sm_wk15 hK] at tb
  have k0 := tb 0 (by omega)
  have k1 := tb 1 (by omega)
  rw [show hh (fa f) - 2 + 0 = hh (fa f) - 2 by omega] at k0
  rw [show hh (fa f) - 2 + 1 = hh (fa f) - 1 by omega] at k1
  have vr := (f5 (hh (fa f) - 2) (by omega)).2 k0
  have vv := (f5 (hh (fa f) - 1) (by omega)).1 k1
  rcases vr with ⟨va0, vb0⟩ | ⟨c, c1, va, vb⟩
  · refine sm_OUTi (xle := xle) (xpe := xpe) (sta := 4) (opn := 0) (xch := xch) (xck := xck) (xbc := xbc) (xcb := xcb) (xcc := xcc) (col := col) (res := res) (cp := cp) (lm := lm) (np := np) (nt := nt) (fr := f + 1) (sb := sb) (us := us) (bo := bo) (oc := oc) (pm := pm) (vs := vs) (mk := mk) (fi := fi) (tk := tk) (xo := xo) (xj := xj) (ow := ow) (xh := xh) (xk := xk) (xl := xl) (fp := fp) (fa := fa) (fh := fh) (cb := cb) (gl := gl) (xbk := xbk) (xbp := xbp) (xbh := xbh) (sl := sl) (cn := cn) (cl := cl) (cr := cr) (fw := fw) (ou := ou) (lo := lo) (st := st) (he := he) (nu := nu) (lf := lf) (rg := rg) (hh := hh) (kk := kk) (dp := dp) (pt := pt) (hd := hd) ?_ (fun post hp => sm_xsW h8 hi n160 hxh hh8 (by omega) (by omega) va0 hp) (fun post hp2 yh yd yt yb ys yr => ?_)
    · exact ⟨⟨l1, l2, l3⟩, hmk, hP, hxx, H, fun z => absurd z (by decide), fun _ => ⟨rfl, n1, hL⟩, fun z => absurd z (by decide)⟩
    · refine sm_y128 hP h8 hi hf8 (fun x8 e8 => ?_)
      rw [hK]
      exact br_f (by decide) (br_t (by decide) (br_f (by decide) (br_f (by decide) (br_t (by rw [x7e]; exact vb0) (hp2 yh yd yt yb ys yr)))))
  · obtain ⟨d1, d2, d3, d4, d5, d6⟩ := q1 c c1
    have x7n : ¬ sm_x7 st f (fh f) = 0 := by rw [x7e, vb]; exact nI_ne0 (by omega) (by omega)
    have HH := sm_hpN (v := sl (f * 16 + 8 + (hh (fa f) - 1))) H c1
    have RN' := sm_rnPop hP hL RN (fun _ _ z => z) (Or.inl hs) (by omega) (by omega)
    rw [← f2] at RN'
    refine sm_OUTi (xle := xle) (xpe := xpe) (sta := 2) (opn := 0) (xch := xch) (xck := xck) (xbc := xbc) (xcb := xcb) (xcc := xcc) (col := col) (res := res) (cp := cp) (lm := lm) (np := np) (nt := nt) (fr := f + 1) (sb := sb) (us := us) (bo := bo) (oc := oc) (pm := pm) (vs := vs) (mk := mk) (fi := fi) (tk := tk) (xo := xo) (xj := xj) (ow := ow) (xh := xh) (xk := xk) (xl := xl) (fp := fp) (fa := sm_u fa f (fa f + 1)) (fh := sm_u fh f (fh f - sm_pop pm (tk (fa f)))) (cb := cb) (gl := gl) (xbk := xbk) (xbp := xbp) (xbh := xbh) (sl := sl) (cn := upd cn (sb + 1 + c) (sl (f * 16 + 8 + (hh (fa f) - 1)))) (cl := cl) (cr := cr) (fw := fw) (ou := ou) (lo := lo) (st := st) (he := he) (nu := upd nu (cb (sb + 1 + c)) (sl (f * 16 + 8 + (hh (fa f) - 1)))) (lf := lf) (rg := rg) (hh := hh) (kk := kk) (dp := dp) (pt := pt) (hd := hd) ?_ (fun post hp => sm_xs15 h8 hi n160 hxh hh8 hx (by omega) va (by omega) (by omega) hp) (fun post hp2 yh yd yt yb ys yr => ?_)
    · exact ⟨⟨l1, l2, l3⟩, hmk, hP, hxx, HH, fun z => absurd z (by decide), fun _ => ⟨rfl, n1, hL⟩, fun _ => RN'⟩
    · refine sm_y128 hP h8 hi hf8 (fun x8 e8 => ?_)
      rw [if_neg (show ¬ ((tk (fa f) % 100 = 20 ∨ tk (fa f) % 100 = 23) ∧ _) from fun z => absurd z.1 (by omega)), hs] at e8
      subst e8
      rw [hK]
      exact br_f (by decide) (br_t (by decide) (br_f (by decide) (br_f (by decide) (br_f x7n (br_f (by decide) (br_f (by decide) (br_t (nI_pos' (by omega)) (br_f (by decide) (sm_yc15 (k := cb (sb + 1 + c)) (by rw [x7e]; exact vb) (by omega) (by rw [x6e, ← vv]; exact (sm_y549b hP h8 hi hf8 hp hle (by omega) (hp2 yh yd yt yb ys yr))))))))))))
theorem sm_st16 (R : sm_REL 2 opn xch xck xbc cp lm np nt (f + 1) sb us bo oc pm vs mk fi tk xo xj ow xh xk xl fp fa fh cb gl xbk xbp xbh sl cn cl cr lo st he nu lf rg hh kk dp pt hd) (hx : xo (fa f) = 16) : sm_OUT (fun post => wpX_step post (xle, xpe, nI cp, nI lm, 2, nI np, opn, nI nt, xch, xck, xbc, nI (f + 1), nI sb, nI us, xcb, xcc, col, nI bo, nI oc, res, sm_n pm, sm_n vs, sm_n mk, sm_k gl, sm_n fi, sm_n tk, sm_n xo, sm_n (sm_ar tk), sm_n xj, sm_n ow, sm_n xh, sm_n xk, sm_n xl, xbk, xbp, xbh, sm_n fp, sm_n fa, sl, cn, cl, cr, sm_n cb, fw, ou)) (fun post => ∀ (yh yd : Int32) (yt yb ys yr : Nat → Int32), wpY_step post (nI cp, nI lm, 2, nI np, opn, nI nt, yh, yd, nI (f + 1), nI bo, col, nI oc, res, sm_n tk, sm_n fi, sm_n pm, sm_n vs, sm_n mk, sm_k gl, yt, yb, ys, yr, sm_n fp, sm_n fa, sm_n fh, lo, st, he, nu, lf, rg, ou)) := by
  obtain ⟨⟨l1, l2, l3⟩, hmk, hP, hxx, H, h0, h1, h2⟩ := R
  obtain ⟨rfl, n1, hL⟩ := h1 (by decide)
  have RN := h2 rfl
  obtain ⟨r1, r2, hF⟩ := id RN
  obtain ⟨⟨f1, hi, hp⟩, f2, f3, f4, f5⟩ := hF f (by omega)
  have f2 := f2 rfl
  have n160 := hP.1.2.1
  have h8 : f < 8 := by omega
  have hhb := sm_PH hP (show fa f ≤ nt by omega)
  have hh8 : hh (fa f) ≤ 8 := hhb.1
  have hf8 : fh f ≤ 8 := by omega
  have hxh := (hxx _ hi).1
  obtain ⟨a1, a2, a3, a4, a5, a6, a7⟩ := sm_PA hP hi
  obtain ⟨b1, b2, b3, b4, b5, b6⟩ := sm_PB hP hi
  have hvs := (sm_PQ hP f1).2.2.1
  obtain ⟨⟨p1, p2, p3, p4, psb⟩, q1, q2, q3⟩ := id H
  have hK : tk (fa f) % 100 = 16 := by
    obtain ⟨e1, e2⟩ := sm_xoe hP hi
    by_cases q : tk (fa f) % 100 = 24
    · rcases e2 q with z | z | z <;> omega
    · rw [← e1 q]; exact hx
  have hpop := sm_pop16 (pm := pm) hK
  have hle : sm_pop pm (tk (fa f)) ≤ fh f := by omega
  have hs : sm_s1 xo xj (fa f) = some (fa f + 1) := by
    unfold sm_s1
    rw [if_neg (by omega), if_neg (by omega)]
  have hs2 := (sm_s1f hP hi hs).1
  have x6e : sm_x6 st f (fh f) = st (f * 8 + (hh (fa f) - 1)) := by
    unfold sm_x6
    rw [if_neg (by omega), f2]
  have x7e : sm_x7 st f (fh f) = st (f * 8 + (hh (fa f) - 2)) := by
    unfold sm_x7
    rw [if_neg (by omega), f2]
  have tb := (sm_tyb a1 a2 hhb.2 b1 (by omega) (by omega)).mp b3
  rw [hpop, sm_wk16 hK] at tb
  have k0 := tb 0 (by omega)
  have k1 := tb 1 (by omega)
  rw [show hh (fa f) - 2 + 0 = hh (fa f) - 2 by omega] at k0
  rw [show hh (fa f) - 2 + 1 = hh (fa f) - 1 by omega] at k1
  have vr := (f5 (hh (fa f) - 2) (by omega)).2 k0
  have vv := (f5 (hh (fa f) - 1) (by omega)).2 k1
  rcases vr with ⟨va0, vb0⟩ | ⟨c, c1, va, vb⟩
  · refine sm_OUTi (xle := xle) (xpe := xpe) (sta := 4) (opn := 0) (xch := xch) (xck := xck) (xbc := xbc) (xcb := xcb) (xcc := xcc) (col := col) (res := res) (cp := cp) (lm := lm) (np := np) (nt := nt) (fr := f + 1) (sb := sb) (us := us) (bo := bo) (oc := oc) (pm := pm) (vs := vs) (mk := mk) (fi := fi) (tk := tk) (xo := xo) (xj := xj) (ow := ow) (xh := xh) (xk := xk) (xl := xl) (fp := fp) (fa := fa) (fh := fh) (cb := cb) (gl := gl) (xbk := xbk) (xbp := xbp) (xbh := xbh) (sl := sl) (cn := cn) (cl := cl) (cr := cr) (fw := fw) (ou := ou) (lo := lo) (st := st) (he := he) (nu := nu) (lf := lf) (rg := rg) (hh := hh) (kk := kk) (dp := dp) (pt := pt) (hd := hd) ?_ (fun post hp => sm_xsW h8 hi n160 hxh hh8 (by omega) (by omega) va0 hp) (fun post hp2 yh yd yt yb ys yr => ?_)
    · exact ⟨⟨l1, l2, l3⟩, hmk, hP, hxx, H, fun z => absurd z (by decide), fun _ => ⟨rfl, n1, hL⟩, fun z => absurd z (by decide)⟩
    · refine sm_y128 hP h8 hi hf8 (fun x8 e8 => ?_)
      rw [hK]
      exact br_f (by decide) (br_t (by decide) (br_f (by decide) (br_f (by decide) (br_t (by rw [x7e]; exact vb0) (hp2 yh yd yt yb ys yr)))))
  · obtain ⟨d1, d2, d3, d4, d5, d6⟩ := q1 c c1
    have x7n : ¬ sm_x7 st f (fh f) = 0 := by rw [x7e, vb]; exact nI_ne0 (by omega) (by omega)
    have HH := sm_hpL H c1 vv
    have RN' := sm_rnPop hP hL RN (fun _ _ z => z) (Or.inl hs) (by omega) (by omega)
    rw [← f2] at RN'
    refine sm_OUTi (xle := xle) (xpe := xpe) (sta := 2) (opn := 0) (xch := xch) (xck := xck) (xbc := xbc) (xcb := xcb) (xcc := xcc) (col := col) (res := res) (cp := cp) (lm := lm) (np := np) (nt := nt) (fr := f + 1) (sb := sb) (us := us) (bo := bo) (oc := oc) (pm := pm) (vs := vs) (mk := mk) (fi := fi) (tk := tk) (xo := xo) (xj := xj) (ow := ow) (xh := xh) (xk := xk) (xl := xl) (fp := fp) (fa := sm_u fa f (fa f + 1)) (fh := sm_u fh f (fh f - sm_pop pm (tk (fa f)))) (cb := cb) (gl := gl) (xbk := xbk) (xbp := xbp) (xbh := xbh) (sl := sl) (cn := cn) (cl := upd cl (sb + 1 + c) (sl (f * 16 + 8 + (hh (fa f) - 1)))) (cr := cr) (fw := fw) (ou := ou) (lo := lo) (st := st) (he := he) (nu := nu) (lf := upd lf (cb (sb + 1 + c)) (st (f * 8 + (hh (fa f) - 1)))) (rg := rg) (hh := hh) (kk := kk) (dp := dp) (pt := pt) (hd := hd) ?_ (fun post hp => sm_xs16 h8 hi n160 hxh hh8 hx (by omega) va (by omega) (by omega) hp) (fun post hp2 yh yd yt yb ys yr => ?_)
    · exact ⟨⟨l1, l2, l3⟩, hmk, hP, hxx, HH, fun z => absurd z (by decide), fun _ => ⟨rfl, n1, hL⟩, fun _ => RN'⟩
    · refine sm_y128 hP h8 hi hf8 (fun x8 e8 => ?_)
      rw [if_neg (show ¬ ((tk (fa f) % 100 = 20 ∨ tk (fa f) % 100 = 23) ∧ _) from fun z => absurd z.1 (by omega)), hs] at e8
      subst e8
      rw [hK]
      exact br_f (by decide) (br_t (by decide) (br_f (by decide) (br_f (by decide) (br_f x7n (br_f (by decide) (br_f (by decide) (br_t (nI_pos' (by omega)) (br_f (by decide) (sm_yc16 (k := cb (sb + 1 + c)) (by rw [x7e]; exact vb) (by omega) (by rw [x6e]; exact (sm_y549b hP h8 hi hf8 hp hle (by omega) (hp2 yh yd yt yb ys yr))))))))))))
theorem sm_st17 (R : sm_REL 2 opn xch xck xbc cp lm np nt (f + 1) sb us bo oc pm vs mk fi tk xo xj ow xh xk xl fp fa fh cb gl xbk xbp xbh sl cn cl cr lo st he nu lf rg hh kk dp pt hd) (hx : xo (fa f) = 17) : sm_OUT (fun post => wpX_step post (xle, xpe, nI cp, nI lm, 2, nI np, opn, nI nt, xch, xck, xbc, nI (f + 1), nI sb, nI us, xcb, xcc, col, nI bo, nI oc, res, sm_n pm, sm_n vs, sm_n mk, sm_k gl, sm_n fi, sm_n tk, sm_n xo, sm_n (sm_ar tk), sm_n xj, sm_n ow, sm_n xh, sm_n xk, sm_n xl, xbk, xbp, xbh, sm_n fp, sm_n fa, sl, cn, cl, cr, sm_n cb, fw, ou)) (fun post => ∀ (yh yd : Int32) (yt yb ys yr : Nat → Int32), wpY_step post (nI cp, nI lm, 2, nI np, opn, nI nt, yh, yd, nI (f + 1), nI bo, col, nI oc, res, sm_n tk, sm_n fi, sm_n pm, sm_n vs, sm_n mk, sm_k gl, yt, yb, ys, yr, sm_n fp, sm_n fa, sm_n fh, lo, st, he, nu, lf, rg, ou)) := by
  obtain ⟨⟨l1, l2, l3⟩, hmk, hP, hxx, H, h0, h1, h2⟩ := R
  obtain ⟨rfl, n1, hL⟩ := h1 (by decide)
  have RN := h2 rfl
  obtain ⟨r1, r2, hF⟩ := id RN
  obtain ⟨⟨f1, hi, hp⟩, f2, f3, f4, f5⟩ := hF f (by omega)
  have f2 := f2 rfl
  have n160 := hP.1.2.1
  have h8 : f < 8 := by omega
  have hhb := sm_PH hP (show fa f ≤ nt by omega)
  have hh8 : hh (fa f) ≤ 8 := hhb.1
  have hf8 : fh f ≤ 8 := by omega
  have hxh := (hxx _ hi).1
  obtain ⟨a1, a2, a3, a4, a5, a6, a7⟩ := sm_PA hP hi
  obtain ⟨b1, b2, b3, b4, b5, b6⟩ := sm_PB hP hi
  have hvs := (sm_PQ hP f1).2.2.1
  obtain ⟨⟨p1, p2, p3, p4, psb⟩, q1, q2, q3⟩ := id H
  have hK : tk (fa f) % 100 = 17 := by
    obtain ⟨e1, e2⟩ := sm_xoe hP hi
    by_cases q : tk (fa f) % 100 = 24
    · rcases e2 q with z | z | z <;> omega
    · rw [← e1 q]; exact hx
  have hpop := sm_pop17 (pm := pm) hK
  have hle : sm_pop pm (tk (fa f)) ≤ fh f := by omega
  have hs : sm_s1 xo xj (fa f) = some (fa f + 1) := by
    unfold sm_s1
    rw [if_neg (by omega), if_neg (by omega)]
  have hs2 := (sm_s1f hP hi hs).1
  have x6e : sm_x6 st f (fh f) = st (f * 8 + (hh (fa f) - 1)) := by
    unfold sm_x6
    rw [if_neg (by omega), f2]
  have x7e : sm_x7 st f (fh f) = st (f * 8 + (hh (fa f) - 2)) := by
    unfold sm_x7
    rw [if_neg (by omega), f2]
  have tb := (sm_tyb a1 a2 hhb.2 b1 (by omega) (by omega)).mp b3
  rw [hpop, sm_wk17 hK] at tb
  have k0 := tb 0 (by omega)
  have k1 := tb 1 (by omega)
  rw [show hh (fa f) - 2 + 0 = hh (fa f) - 2 by omega] at k0
  rw [show hh (fa f) - 2 + 1 = hh (fa f) - 1 by omega] at k1
  have vr := (f5 (hh (fa f) - 2) (by omega)).2 k0
  have vv := (f5 (hh (fa f) - 1) (by omega)).2 k1
  rcases vr with ⟨va0, vb0⟩ | ⟨c, c1, va, vb⟩
  · refine sm_OUTi (xle := xle) (xpe := xpe) (sta := 4) (opn := 0) (xch := xch) (xck := xck) (xbc := xbc) (xcb := xcb) (xcc := xcc) (col := col) (res := res) (cp := cp) (lm := lm) (np := np) (nt := nt) (fr := f + 1) (sb := sb) (us := us) (bo := bo) (oc := oc) (pm := pm) (vs := vs) (mk := mk) (fi := fi) (tk := tk) (xo := xo) (xj := xj) (ow := ow) (xh := xh) (xk := xk) (xl := xl) (fp := fp) (fa := fa) (fh := fh) (cb := cb) (gl := gl) (xbk := xbk) (xbp := xbp) (xbh := xbh) (sl := sl) (cn := cn) (cl := cl) (cr := cr) (fw := fw) (ou := ou) (lo := lo) (st := st) (he := he) (nu := nu) (lf := lf) (rg := rg) (hh := hh) (kk := kk) (dp := dp) (pt := pt) (hd := hd) ?_ (fun post hp => sm_xsW h8 hi n160 hxh hh8 (by omega) (by omega) va0 hp) (fun post hp2 yh yd yt yb ys yr => ?_)
    · exact ⟨⟨l1, l2, l3⟩, hmk, hP, hxx, H, fun z => absurd z (by decide), fun _ => ⟨rfl, n1, hL⟩, fun z => absurd z (by decide)⟩
    · refine sm_y128 hP h8 hi hf8 (fun x8 e8 => ?_)
      rw [hK]
      exact br_f (by decide) (br_t (by decide) (br_f (by decide) (br_f (by decide) (br_t (by rw [x7e]; exact vb0) (hp2 yh yd yt yb ys yr)))))
  · obtain ⟨d1, d2, d3, d4, d5, d6⟩ := q1 c c1
    have x7n : ¬ sm_x7 st f (fh f) = 0 := by rw [x7e, vb]; exact nI_ne0 (by omega) (by omega)
    have HH := sm_hpR H c1 vv
    have RN' := sm_rnPop hP hL RN (fun _ _ z => z) (Or.inl hs) (by omega) (by omega)
    rw [← f2] at RN'
    refine sm_OUTi (xle := xle) (xpe := xpe) (sta := 2) (opn := 0) (xch := xch) (xck := xck) (xbc := xbc) (xcb := xcb) (xcc := xcc) (col := col) (res := res) (cp := cp) (lm := lm) (np := np) (nt := nt) (fr := f + 1) (sb := sb) (us := us) (bo := bo) (oc := oc) (pm := pm) (vs := vs) (mk := mk) (fi := fi) (tk := tk) (xo := xo) (xj := xj) (ow := ow) (xh := xh) (xk := xk) (xl := xl) (fp := fp) (fa := sm_u fa f (fa f + 1)) (fh := sm_u fh f (fh f - sm_pop pm (tk (fa f)))) (cb := cb) (gl := gl) (xbk := xbk) (xbp := xbp) (xbh := xbh) (sl := sl) (cn := cn) (cl := cl) (cr := upd cr (sb + 1 + c) (sl (f * 16 + 8 + (hh (fa f) - 1)))) (fw := fw) (ou := ou) (lo := lo) (st := st) (he := he) (nu := nu) (lf := lf) (rg := upd rg (cb (sb + 1 + c)) (st (f * 8 + (hh (fa f) - 1)))) (hh := hh) (kk := kk) (dp := dp) (pt := pt) (hd := hd) ?_ (fun post hp => sm_xs17 h8 hi n160 hxh hh8 hx (by omega) va (by omega) (by omega) hp) (fun post hp2 yh yd yt yb ys yr => ?_)
    · exact ⟨⟨l1, l2, l3⟩, hmk, hP, hxx, HH, fun z => absurd z (by decide), fun _ => ⟨rfl, n1, hL⟩, fun _ => RN'⟩
    · refine sm_y128 hP h8 hi hf8 (fun x8 e8 => ?_)
      rw [if_neg (show ¬ ((tk (fa f) % 100 = 20 ∨ tk (fa f) % 100 = 23) ∧ _) from fun z => absurd z.1 (by omega)), hs] at e8
      subst e8
      rw [hK]
      exact br_f (by decide) (br_t (by decide) (br_f (by decide) (br_f (by decide) (br_f x7n (br_f (by decide) (br_f (by decide) (br_t (nI_pos' (by omega)) (br_f (by decide) (sm_yc17 (k := cb (sb + 1 + c)) (by rw [x7e]; exact vb) (by omega) (by rw [x6e]; exact (sm_y549b hP h8 hi hf8 hp hle (by omega) (hp2 yh yd yt yb ys yr))))))))))))
theorem sm_st18 (R : sm_REL 2 opn xch xck xbc cp lm np nt (f + 1) sb us bo oc pm vs mk fi tk xo xj ow xh xk xl fp fa fh cb gl xbk xbp xbh sl cn cl cr lo st he nu lf rg hh kk dp pt hd) (hx : xo (fa f) = 18) : sm_OUT (fun post => wpX_step post (xle, xpe, nI cp, nI lm, 2, nI np, opn, nI nt, xch, xck, xbc, nI (f + 1), nI sb, nI us, xcb, xcc, col, nI bo, nI oc, res, sm_n pm, sm_n vs, sm_n mk, sm_k gl, sm_n fi, sm_n tk, sm_n xo, sm_n (sm_ar tk), sm_n xj, sm_n ow, sm_n xh, sm_n xk, sm_n xl, xbk, xbp, xbh, sm_n fp, sm_n fa, sl, cn, cl, cr, sm_n cb, fw, ou)) (fun post => ∀ (yh yd : Int32) (yt yb ys yr : Nat → Int32), wpY_step post (nI cp, nI lm, 2, nI np, opn, nI nt, yh, yd, nI (f + 1), nI bo, col, nI oc, res, sm_n tk, sm_n fi, sm_n pm, sm_n vs, sm_n mk, sm_k gl, yt, yb, ys, yr, sm_n fp, sm_n fa, sm_n fh, lo, st, he, nu, lf, rg, ou)) := by
  obtain ⟨⟨l1, l2, l3⟩, hmk, hP, hxx, H, h0, h1, h2⟩ := R
  obtain ⟨rfl, n1, hL⟩ := h1 (by decide)
  have RN := h2 rfl
  obtain ⟨r1, r2, hF⟩ := id RN
  obtain ⟨⟨f1, hi, hp⟩, f2, f3, f4, f5⟩ := hF f (by omega)
  have f2 := f2 rfl
  have n160 := hP.1.2.1
  have h8 : f < 8 := by omega
  have hhb := sm_PH hP (show fa f ≤ nt by omega)
  have hh8 : hh (fa f) ≤ 8 := hhb.1
  have hf8 : fh f ≤ 8 := by omega
  have hxh := (hxx _ hi).1
  obtain ⟨a1, a2, a3, a4, a5, a6, a7⟩ := sm_PA hP hi
  obtain ⟨b1, b2, b3, b4, b5, b6⟩ := sm_PB hP hi
  have hvs := (sm_PQ hP f1).2.2.1
  obtain ⟨⟨p1, p2, p3, p4, psb⟩, q1, q2, q3⟩ := id H
  have hK : tk (fa f) % 100 = 18 := by
    obtain ⟨e1, e2⟩ := sm_xoe hP hi
    by_cases q : tk (fa f) % 100 = 24
    · rcases e2 q with z | z | z <;> omega
    · rw [← e1 q]; exact hx
  have hpop := sm_pop18 (pm := pm) hK
  have hle : sm_pop pm (tk (fa f)) ≤ fh f := by omega
  have hs : sm_s1 xo xj (fa f) = some (fa f + 1) := by
    unfold sm_s1
    rw [if_neg (by omega), if_neg (by omega)]
  have hs2 := (sm_s1f hP hi hs).1
  have x6e : sm_x6 st f (fh f) = st (f * 8 + (hh (fa f) - 1)) := by
    unfold sm_x6
    rw [if_neg (by omega), f2]
  have tb := (sm_tyb a1 a2 hhb.2 b1 (by omega) (by omega)).mp b3
  rw [hpop, sm_wk18 hK] at tb
  have k0 := tb 0 (by omega)
  rw [show hh (fa f) - 1 + 0 = hh (fa f) - 1 by omega, Nat.zero_testBit] at k0
  have vv := (f5 (hh (fa f) - 1) (by omega)).1 k0
  by_cases co : oc = 32
  · refine sm_OUTi (xle := xle) (xpe := xpe) (sta := 7) (opn := 0) (xch := xch) (xck := xck) (xbc := xbc) (xcb := xcb) (xcc := xcc) (col := col) (res := res) (cp := cp) (lm := lm) (np := np) (nt := nt) (fr := f + 1) (sb := sb) (us := us) (bo := bo) (oc := oc) (pm := pm) (vs := vs) (mk := mk) (fi := fi) (tk := tk) (xo := xo) (xj := xj) (ow := ow) (xh := xh) (xk := xk) (xl := xl) (fp := fp) (fa := fa) (fh := fh) (cb := cb) (gl := gl) (xbk := xbk) (xbp := xbp) (xbh := xbh) (sl := sl) (cn := cn) (cl := cl) (cr := cr) (fw := fw) (ou := ou) (lo := lo) (st := st) (he := he) (nu := nu) (lf := lf) (rg := rg) (hh := hh) (kk := kk) (dp := dp) (pt := pt) (hd := hd) ?_ (fun post hp => sm_xsP h8 hi n160 hxh hh8 hx co hp) (fun post hp2 yh yd yt yb ys yr => ?_)
    · exact ⟨⟨l1, l2, l3⟩, hmk, hP, hxx, H, fun z => absurd z (by decide), fun _ => ⟨rfl, n1, hL⟩, fun z => absurd z (by decide)⟩
    · refine sm_y128 hP h8 hi hf8 (fun x8 e8 => ?_)
      rw [hK]
      exact br_f (by decide) (br_t (by decide) (br_f (by decide) (br_t (by decide) (br_t (by decide) (br_t (by rw [co]; rfl) (hp2 yh yd yt yb ys yr))))))
  · have on : ¬ nI oc = 32 := fun z => co ((sm_eq32 (by omega)).mp z)
    have HH := H
    have RN' := sm_rnPop hP hL RN (fun _ _ z => z) (Or.inl hs) (by omega) (by omega)
    rw [← f2] at RN'
    refine sm_OUTi (xle := xle) (xpe := xpe) (sta := 2) (opn := 0) (xch := xch) (xck := xck) (xbc := xbc) (xcb := xcb) (xcc := xcc) (col := col) (res := res) (cp := cp) (lm := lm) (np := np) (nt := nt) (fr := f + 1) (sb := sb) (us := us) (bo := bo) (oc := oc + 1) (pm := pm) (vs := vs) (mk := mk) (fi := fi) (tk := tk) (xo := xo) (xj := xj) (ow := ow) (xh := xh) (xk := xk) (xl := xl) (fp := fp) (fa := sm_u fa f (fa f + 1)) (fh := sm_u fh f (fh f - sm_pop pm (tk (fa f)))) (cb := cb) (gl := gl) (xbk := xbk) (xbp := xbp) (xbh := xbh) (sl := sl) (cn := cn) (cl := cl) (cr := cr) (fw := fw) (ou := upd ou oc (sl (f * 16 + 8 + (hh (fa f) - 1)))) (lo := lo) (st := st) (he := he) (nu := nu) (lf := lf) (rg := rg) (hh := hh) (kk := kk) (dp := dp) (pt := pt) (hd := hd) ?_ (fun post hp => sm_xs18 h8 hi n160 hxh hh8 hx (by omega) (by omega) hp) (fun post hp2 yh yd yt yb ys yr => ?_)
    · exact ⟨⟨l1, l2, by omega⟩, hmk, hP, hxx, HH, fun z => absurd z (by decide), fun _ => ⟨rfl, n1, hL⟩, fun _ => RN'⟩
    · refine sm_y128 hP h8 hi hf8 (fun x8 e8 => ?_)
      rw [if_neg (show ¬ ((tk (fa f) % 100 = 20 ∨ tk (fa f) % 100 = 23) ∧ _) from fun z => absurd z.1 (by omega)), hs] at e8
      subst e8
      rw [hK]
      exact br_f (by decide) (br_t (by decide) (br_f (by decide) (br_t (by decide) (br_t (by decide) (br_f on (br_f (by decide) (br_t (nI_pos' (by omega)) (br_f (by decide) (sm_yc18 (by omega) (by rw [x6e, ← vv]; exact (sm_y549b hP h8 hi hf8 hp hle (by omega) (hp2 yh yd yt yb ys yr))))))))))))
theorem sm_st19 (R : sm_REL 2 opn xch xck xbc cp lm np nt (f + 1) sb us bo oc pm vs mk fi tk xo xj ow xh xk xl fp fa fh cb gl xbk xbp xbh sl cn cl cr lo st he nu lf rg hh kk dp pt hd) (hx : xo (fa f) = 19) : sm_OUT (fun post => wpX_step post (xle, xpe, nI cp, nI lm, 2, nI np, opn, nI nt, xch, xck, xbc, nI (f + 1), nI sb, nI us, xcb, xcc, col, nI bo, nI oc, res, sm_n pm, sm_n vs, sm_n mk, sm_k gl, sm_n fi, sm_n tk, sm_n xo, sm_n (sm_ar tk), sm_n xj, sm_n ow, sm_n xh, sm_n xk, sm_n xl, xbk, xbp, xbh, sm_n fp, sm_n fa, sl, cn, cl, cr, sm_n cb, fw, ou)) (fun post => ∀ (yh yd : Int32) (yt yb ys yr : Nat → Int32), wpY_step post (nI cp, nI lm, 2, nI np, opn, nI nt, yh, yd, nI (f + 1), nI bo, col, nI oc, res, sm_n tk, sm_n fi, sm_n pm, sm_n vs, sm_n mk, sm_k gl, yt, yb, ys, yr, sm_n fp, sm_n fa, sm_n fh, lo, st, he, nu, lf, rg, ou)) := by
  obtain ⟨⟨l1, l2, l3⟩, hmk, hP, hxx, H, h0, h1, h2⟩ := R
  obtain ⟨rfl, n1, hL⟩ := h1 (by decide)
  have RN := h2 rfl
  obtain ⟨r1, r2, hF⟩ := id RN
  obtain ⟨⟨f1, hi, hp⟩, f2, f3, f4, f5⟩ := hF f (by omega)
  have f2 := f2 rfl
  have n160 := hP.1.2.1
  have h8 : f < 8 := by omega
  have hhb := sm_PH hP (show fa f ≤ nt by omega)
  have hh8 : hh (fa f) ≤ 8 := hhb.1
  have hf8 : fh f ≤ 8 := by omega
  have hxh := (hxx _ hi).1
  obtain ⟨a1, a2, a3, a4, a5, a6, a7⟩ := sm_PA hP hi
  obtain ⟨b1, b2, b3, b4, b5, b6⟩ := sm_PB hP hi
  have hvs := (sm_PQ hP f1).2.2.1
  obtain ⟨⟨p1, p2, p3, p4, psb⟩, q1, q2, q3⟩ := id H
  have hK : tk (fa f) % 100 = 19 := by
    obtain ⟨e1, e2⟩ := sm_xoe hP hi
    by_cases q : tk (fa f) % 100 = 24
    · rcases e2 q with z | z | z <;> omega
    · rw [← e1 q]; exact hx
  have hpop := sm_pop19 (pm := pm) hK
  have hle : sm_pop pm (tk (fa f)) ≤ fh f := by omega
  have hs : sm_s1 xo xj (fa f) = some (fa f + 1) := by
    unfold sm_s1
    rw [if_neg (by omega), if_neg (by omega)]
  have hs2 := (sm_s1f hP hi hs).1
  have HH := H
  have RN' := sm_rnPop hP hL RN (fun _ _ z => z) (Or.inl hs) (by omega) (by omega)
  rw [← f2] at RN'
  refine sm_OUTi (xle := xle) (xpe := xpe) (sta := 2) (opn := 0) (xch := xch) (xck := xck) (xbc := xbc) (xcb := xcb) (xcc := xcc) (col := col) (res := res) (cp := cp) (lm := lm) (np := np) (nt := nt) (fr := f + 1) (sb := sb) (us := us) (bo := bo) (oc := oc) (pm := pm) (vs := vs) (mk := mk) (fi := fi) (tk := tk) (xo := xo) (xj := xj) (ow := ow) (xh := xh) (xk := xk) (xl := xl) (fp := fp) (fa := sm_u fa f (fa f + 1)) (fh := sm_u fh f (fh f - sm_pop pm (tk (fa f)))) (cb := cb) (gl := gl) (xbk := xbk) (xbp := xbp) (xbh := xbh) (sl := sl) (cn := cn) (cl := cl) (cr := cr) (fw := fw) (ou := ou) (lo := lo) (st := st) (he := he) (nu := nu) (lf := lf) (rg := rg) (hh := hh) (kk := kk) (dp := dp) (pt := pt) (hd := hd) ?_ (fun post hp => sm_xs19 h8 hi n160 hxh hh8 hx hp) (fun post hp2 yh yd yt yb ys yr => ?_)
  · exact ⟨⟨l1, l2, l3⟩, hmk, hP, hxx, HH, fun z => absurd z (by decide), fun _ => ⟨rfl, n1, hL⟩, fun _ => RN'⟩
  · refine sm_y128 hP h8 hi hf8 (fun x8 e8 => ?_)
    rw [if_neg (show ¬ ((tk (fa f) % 100 = 20 ∨ tk (fa f) % 100 = 23) ∧ _) from fun z => absurd z.1 (by omega)), hs] at e8
    subst e8
    rw [hK]
    exact br_f (by decide) (br_t (by decide) (br_f (by decide) (br_t (by decide) (br_f (by decide) (br_f (by decide) (br_t (nI_pos' (by omega)) (br_f (by decide) (sm_yc19 (sm_y549b hP h8 hi hf8 hp hle (by omega) (hp2 yh yd yt yb ys yr))))))))))
theorem sm_st21 (R : sm_REL 2 opn xch xck xbc cp lm np nt (f + 1) sb us bo oc pm vs mk fi tk xo xj ow xh xk xl fp fa fh cb gl xbk xbp xbh sl cn cl cr lo st he nu lf rg hh kk dp pt hd) (hx : xo (fa f) = 21) : sm_OUT (fun post => wpX_step post (xle, xpe, nI cp, nI lm, 2, nI np, opn, nI nt, xch, xck, xbc, nI (f + 1), nI sb, nI us, xcb, xcc, col, nI bo, nI oc, res, sm_n pm, sm_n vs, sm_n mk, sm_k gl, sm_n fi, sm_n tk, sm_n xo, sm_n (sm_ar tk), sm_n xj, sm_n ow, sm_n xh, sm_n xk, sm_n xl, xbk, xbp, xbh, sm_n fp, sm_n fa, sl, cn, cl, cr, sm_n cb, fw, ou)) (fun post => ∀ (yh yd : Int32) (yt yb ys yr : Nat → Int32), wpY_step post (nI cp, nI lm, 2, nI np, opn, nI nt, yh, yd, nI (f + 1), nI bo, col, nI oc, res, sm_n tk, sm_n fi, sm_n pm, sm_n vs, sm_n mk, sm_k gl, yt, yb, ys, yr, sm_n fp, sm_n fa, sm_n fh, lo, st, he, nu, lf, rg, ou)) := by
  obtain ⟨⟨l1, l2, l3⟩, hmk, hP, hxx, H, h0, h1, h2⟩ := R
  obtain ⟨rfl, n1, hL⟩ := h1 (by decide)
  have RN := h2 rfl
  obtain ⟨r1, r2, hF⟩ := id RN
  obtain ⟨⟨f1, hi, hp⟩, f2, f3, f4, f5⟩ := hF f (by omega)
  have f2 := f2 rfl
  have n160 := hP.1.2.1
  have h8 : f < 8 := by omega
  have hhb := sm_PH hP (show fa f ≤ nt by omega)
  have hh8 : hh (fa f) ≤ 8 := hhb.1
  have hf8 : fh f ≤ 8 := by omega
  have hxh := (hxx _ hi).1
  obtain ⟨a1, a2, a3, a4, a5, a6, a7⟩ := sm_PA hP hi
  obtain ⟨b1, b2, b3, b4, b5, b6⟩ := sm_PB hP hi
  have hvs := (sm_PQ hP f1).2.2.1
  obtain ⟨⟨p1, p2, p3, p4, psb⟩, q1, q2, q3⟩ := id H
  have hK : tk (fa f) % 100 = 21 := by
    obtain ⟨e1, e2⟩ := sm_xoe hP hi
    by_cases q : tk (fa f) % 100 = 24
    · rcases e2 q with z | z | z <;> omega
    · rw [← e1 q]; exact hx
  have hpop := sm_pop21 (pm := pm) hK
  have hle : sm_pop pm (tk (fa f)) ≤ fh f := by omega
  have hs : sm_s1 xo xj (fa f) = some (xj (fa f)) := by
    unfold sm_s1
    rw [if_neg (by omega), if_pos (by omega)]
  have hs2 := (sm_s1f hP hi hs).1
  have HH := H
  have RN' := sm_rnPop hP hL RN (fun _ _ z => z) (Or.inl hs) (by omega) (by omega)
  rw [← f2] at RN'
  refine sm_OUTi (xle := xle) (xpe := xpe) (sta := 2) (opn := 0) (xch := xch) (xck := xck) (xbc := xbc) (xcb := xcb) (xcc := xcc) (col := col) (res := res) (cp := cp) (lm := lm) (np := np) (nt := nt) (fr := f + 1) (sb := sb) (us := us) (bo := bo) (oc := oc) (pm := pm) (vs := vs) (mk := mk) (fi := fi) (tk := tk) (xo := xo) (xj := xj) (ow := ow) (xh := xh) (xk := xk) (xl := xl) (fp := fp) (fa := sm_u fa f (xj (fa f))) (fh := sm_u fh f (fh f - sm_pop pm (tk (fa f)))) (cb := cb) (gl := gl) (xbk := xbk) (xbp := xbp) (xbh := xbh) (sl := sl) (cn := cn) (cl := cl) (cr := cr) (fw := fw) (ou := ou) (lo := lo) (st := st) (he := he) (nu := nu) (lf := lf) (rg := rg) (hh := hh) (kk := kk) (dp := dp) (pt := pt) (hd := hd) ?_ (fun post hp => sm_xs21 h8 hi n160 hxh hh8 hx hp) (fun post hp2 yh yd yt yb ys yr => ?_)
  · exact ⟨⟨l1, l2, l3⟩, hmk, hP, hxx, HH, fun z => absurd z (by decide), fun _ => ⟨rfl, n1, hL⟩, fun _ => RN'⟩
  · refine sm_y128 hP h8 hi hf8 (fun x8 e8 => ?_)
    rw [if_neg (show ¬ ((tk (fa f) % 100 = 20 ∨ tk (fa f) % 100 = 23) ∧ _) from fun z => absurd z.1 (by omega)), hs] at e8
    subst e8
    rw [hK]
    exact br_f (by decide) (br_t (by decide) (br_f (by decide) (br_t (by decide) (br_f (by decide) (br_f (by decide) (br_t (nI_pos' (by omega)) (br_f (by decide) (sm_yc21 (sm_y549b hP h8 hi hf8 hp hle (by omega) (hp2 yh yd yt yb ys yr))))))))))
theorem sm_st22 (R : sm_REL 2 opn xch xck xbc cp lm np nt (f + 1) sb us bo oc pm vs mk fi tk xo xj ow xh xk xl fp fa fh cb gl xbk xbp xbh sl cn cl cr lo st he nu lf rg hh kk dp pt hd) (hx : xo (fa f) = 22) : sm_OUT (fun post => wpX_step post (xle, xpe, nI cp, nI lm, 2, nI np, opn, nI nt, xch, xck, xbc, nI (f + 1), nI sb, nI us, xcb, xcc, col, nI bo, nI oc, res, sm_n pm, sm_n vs, sm_n mk, sm_k gl, sm_n fi, sm_n tk, sm_n xo, sm_n (sm_ar tk), sm_n xj, sm_n ow, sm_n xh, sm_n xk, sm_n xl, xbk, xbp, xbh, sm_n fp, sm_n fa, sl, cn, cl, cr, sm_n cb, fw, ou)) (fun post => ∀ (yh yd : Int32) (yt yb ys yr : Nat → Int32), wpY_step post (nI cp, nI lm, 2, nI np, opn, nI nt, yh, yd, nI (f + 1), nI bo, col, nI oc, res, sm_n tk, sm_n fi, sm_n pm, sm_n vs, sm_n mk, sm_k gl, yt, yb, ys, yr, sm_n fp, sm_n fa, sm_n fh, lo, st, he, nu, lf, rg, ou)) := by
  obtain ⟨⟨l1, l2, l3⟩, hmk, hP, hxx, H, h0, h1, h2⟩ := R
  obtain ⟨rfl, n1, hL⟩ := h1 (by decide)
  have RN := h2 rfl
  obtain ⟨r1, r2, hF⟩ := id RN
  obtain ⟨⟨f1, hi, hp⟩, f2, f3, f4, f5⟩ := hF f (by omega)
  have f2 := f2 rfl
  have n160 := hP.1.2.1
  have h8 : f < 8 := by omega
  have hhb := sm_PH hP (show fa f ≤ nt by omega)
  have hh8 : hh (fa f) ≤ 8 := hhb.1
  have hf8 : fh f ≤ 8 := by omega
  have hxh := (hxx _ hi).1
  obtain ⟨a1, a2, a3, a4, a5, a6, a7⟩ := sm_PA hP hi
  obtain ⟨b1, b2, b3, b4, b5, b6⟩ := sm_PB hP hi
  have hvs := (sm_PQ hP f1).2.2.1
  obtain ⟨⟨p1, p2, p3, p4, psb⟩, q1, q2, q3⟩ := id H
  have hK : tk (fa f) % 100 = 22 := by
    obtain ⟨e1, e2⟩ := sm_xoe hP hi
    by_cases q : tk (fa f) % 100 = 24
    · rcases e2 q with z | z | z <;> omega
    · rw [← e1 q]; exact hx
  have hpop := sm_pop22 (pm := pm) hK
  have hle : sm_pop pm (tk (fa f)) ≤ fh f := by omega
  have hs : sm_s1 xo xj (fa f) = some (fa f + 1) := by
    unfold sm_s1
    rw [if_neg (by omega), if_neg (by omega)]
  have hs2 := (sm_s1f hP hi hs).1
  have HH := H
  have RN' := sm_rnPop hP hL RN (fun _ _ z => z) (Or.inl hs) (by omega) (by omega)
  rw [← f2] at RN'
  refine sm_OUTi (xle := xle) (xpe := xpe) (sta := 2) (opn := 0) (xch := xch) (xck := xck) (xbc := xbc) (xcb := xcb) (xcc := xcc) (col := col) (res := res) (cp := cp) (lm := lm) (np := np) (nt := nt) (fr := f + 1) (sb := sb) (us := us) (bo := bo) (oc := oc) (pm := pm) (vs := vs) (mk := mk) (fi := fi) (tk := tk) (xo := xo) (xj := xj) (ow := ow) (xh := xh) (xk := xk) (xl := xl) (fp := fp) (fa := sm_u fa f (fa f + 1)) (fh := sm_u fh f (fh f - sm_pop pm (tk (fa f)))) (cb := cb) (gl := gl) (xbk := xbk) (xbp := xbp) (xbh := xbh) (sl := sl) (cn := cn) (cl := cl) (cr := cr) (fw := fw) (ou := ou) (lo := lo) (st := st) (he := he) (nu := nu) (lf := lf) (rg := rg) (hh := hh) (kk := kk) (dp := dp) (pt := pt) (hd := hd) ?_ (fun post hp => sm_xs22 h8 hi n160 hxh hh8 hx hp) (fun post hp2 yh yd yt yb ys yr => ?_)
  · exact ⟨⟨l1, l2, l3⟩, hmk, hP, hxx, HH, fun z => absurd z (by decide), fun _ => ⟨rfl, n1, hL⟩, fun _ => RN'⟩
  · refine sm_y128 hP h8 hi hf8 (fun x8 e8 => ?_)
    rw [if_neg (show ¬ ((tk (fa f) % 100 = 20 ∨ tk (fa f) % 100 = 23) ∧ _) from fun z => absurd z.1 (by omega)), hs] at e8
    subst e8
    rw [hK]
    exact br_f (by decide) (br_t (by decide) (br_f (by decide) (br_t (by decide) (br_f (by decide) (br_f (by decide) (br_t (nI_pos' (by omega)) (br_f (by decide) (sm_yc22 (sm_y549b hP h8 hi hf8 hp hle (by omega) (hp2 yh yd yt yb ys yr))))))))))
theorem sm_st24 (R : sm_REL 2 opn xch xck xbc cp lm np nt (f + 1) sb us bo oc pm vs mk fi tk xo xj ow xh xk xl fp fa fh cb gl xbk xbp xbh sl cn cl cr lo st he nu lf rg hh kk dp pt hd) (hx : xo (fa f) = 24) : sm_OUT (fun post => wpX_step post (xle, xpe, nI cp, nI lm, 2, nI np, opn, nI nt, xch, xck, xbc, nI (f + 1), nI sb, nI us, xcb, xcc, col, nI bo, nI oc, res, sm_n pm, sm_n vs, sm_n mk, sm_k gl, sm_n fi, sm_n tk, sm_n xo, sm_n (sm_ar tk), sm_n xj, sm_n ow, sm_n xh, sm_n xk, sm_n xl, xbk, xbp, xbh, sm_n fp, sm_n fa, sl, cn, cl, cr, sm_n cb, fw, ou)) (fun post => ∀ (yh yd : Int32) (yt yb ys yr : Nat → Int32), wpY_step post (nI cp, nI lm, 2, nI np, opn, nI nt, yh, yd, nI (f + 1), nI bo, col, nI oc, res, sm_n tk, sm_n fi, sm_n pm, sm_n vs, sm_n mk, sm_k gl, yt, yb, ys, yr, sm_n fp, sm_n fa, sm_n fh, lo, st, he, nu, lf, rg, ou)) := by
  obtain ⟨⟨l1, l2, l3⟩, hmk, hP, hxx, H, h0, h1, h2⟩ := R
  obtain ⟨rfl, n1, hL⟩ := h1 (by decide)
  have RN := h2 rfl
  obtain ⟨r1, r2, hF⟩ := id RN
  obtain ⟨⟨f1, hi, hp⟩, f2, f3, f4, f5⟩ := hF f (by omega)
  have f2 := f2 rfl
  have n160 := hP.1.2.1
  have h8 : f < 8 := by omega
  have hhb := sm_PH hP (show fa f ≤ nt by omega)
  have hh8 : hh (fa f) ≤ 8 := hhb.1
  have hf8 : fh f ≤ 8 := by omega
  have hxh := (hxx _ hi).1
  obtain ⟨a1, a2, a3, a4, a5, a6, a7⟩ := sm_PA hP hi
  obtain ⟨b1, b2, b3, b4, b5, b6⟩ := sm_PB hP hi
  have hvs := (sm_PQ hP f1).2.2.1
  obtain ⟨⟨p1, p2, p3, p4, psb⟩, q1, q2, q3⟩ := id H
  have hK : tk (fa f) % 100 = 24 := by
    obtain ⟨e1, e2⟩ := sm_xoe hP hi
    by_cases q : tk (fa f) % 100 = 24
    · exact q
    · have := e1 q; omega
  have hpop := sm_pop24 (pm := pm) hK
  have hle : sm_pop pm (tk (fa f)) ≤ fh f := by omega
  have hs : sm_s1 xo xj (fa f) = some (fa f + 1) := by
    unfold sm_s1
    rw [if_neg (by omega), if_neg (by omega)]
  have hs2 := (sm_s1f hP hi hs).1
  have HH := H
  have RN' := sm_rnPop hP hL RN (fun _ _ z => z) (Or.inl hs) (by omega) (by omega)
  rw [← f2] at RN'
  refine sm_OUTi (xle := xle) (xpe := xpe) (sta := 2) (opn := 0) (xch := xch) (xck := xck) (xbc := xbc) (xcb := xcb) (xcc := xcc) (col := col) (res := res) (cp := cp) (lm := lm) (np := np) (nt := nt) (fr := f + 1) (sb := sb) (us := us) (bo := bo) (oc := oc) (pm := pm) (vs := vs) (mk := mk) (fi := fi) (tk := tk) (xo := xo) (xj := xj) (ow := ow) (xh := xh) (xk := xk) (xl := xl) (fp := fp) (fa := sm_u fa f (fa f + 1)) (fh := sm_u fh f (fh f - sm_pop pm (tk (fa f)))) (cb := cb) (gl := gl) (xbk := xbk) (xbp := xbp) (xbh := xbh) (sl := sl) (cn := cn) (cl := cl) (cr := cr) (fw := fw) (ou := ou) (lo := lo) (st := st) (he := he) (nu := nu) (lf := lf) (rg := rg) (hh := hh) (kk := kk) (dp := dp) (pt := pt) (hd := hd) ?_ (fun post hp => sm_xs24 h8 hi n160 hxh hh8 hx hp) (fun post hp2 yh yd yt yb ys yr => ?_)
  · exact ⟨⟨l1, l2, l3⟩, hmk, hP, hxx, HH, fun z => absurd z (by decide), fun _ => ⟨rfl, n1, hL⟩, fun _ => RN'⟩
  · refine sm_y128 hP h8 hi hf8 (fun x8 e8 => ?_)
    rw [if_neg (show ¬ ((tk (fa f) % 100 = 20 ∨ tk (fa f) % 100 = 23) ∧ _) from fun z => absurd z.1 (by omega)), hs] at e8
    subst e8
    rw [hK]
    exact br_f (by decide) (br_t (by decide) (br_f (by decide) (br_t (by decide) (br_f (by decide) (br_f (by decide) (br_t (nI_pos' (by omega)) (br_f (by decide) (sm_yc24 (sm_y549b hP h8 hi hf8 hp hle (by omega) (hp2 yh yd yt yb ys yr))))))))))
theorem sm_st26 (R : sm_REL 2 opn xch xck xbc cp lm np nt (f + 1) sb us bo oc pm vs mk fi tk xo xj ow xh xk xl fp fa fh cb gl xbk xbp xbh sl cn cl cr lo st he nu lf rg hh kk dp pt hd) (hx : xo (fa f) = 26) : sm_OUT (fun post => wpX_step post (xle, xpe, nI cp, nI lm, 2, nI np, opn, nI nt, xch, xck, xbc, nI (f + 1), nI sb, nI us, xcb, xcc, col, nI bo, nI oc, res, sm_n pm, sm_n vs, sm_n mk, sm_k gl, sm_n fi, sm_n tk, sm_n xo, sm_n (sm_ar tk), sm_n xj, sm_n ow, sm_n xh, sm_n xk, sm_n xl, xbk, xbp, xbh, sm_n fp, sm_n fa, sl, cn, cl, cr, sm_n cb, fw, ou)) (fun post => ∀ (yh yd : Int32) (yt yb ys yr : Nat → Int32), wpY_step post (nI cp, nI lm, 2, nI np, opn, nI nt, yh, yd, nI (f + 1), nI bo, col, nI oc, res, sm_n tk, sm_n fi, sm_n pm, sm_n vs, sm_n mk, sm_k gl, yt, yb, ys, yr, sm_n fp, sm_n fa, sm_n fh, lo, st, he, nu, lf, rg, ou)) := by
  obtain ⟨⟨l1, l2, l3⟩, hmk, hP, hxx, H, h0, h1, h2⟩ := R
  obtain ⟨rfl, n1, hL⟩ := h1 (by decide)
  have RN := h2 rfl
  obtain ⟨r1, r2, hF⟩ := id RN
  obtain ⟨⟨f1, hi, hp⟩, f2, f3, f4, f5⟩ := hF f (by omega)
  have f2 := f2 rfl
  have n160 := hP.1.2.1
  have h8 : f < 8 := by omega
  have hhb := sm_PH hP (show fa f ≤ nt by omega)
  have hh8 : hh (fa f) ≤ 8 := hhb.1
  have hf8 : fh f ≤ 8 := by omega
  have hxh := (hxx _ hi).1
  obtain ⟨a1, a2, a3, a4, a5, a6, a7⟩ := sm_PA hP hi
  obtain ⟨b1, b2, b3, b4, b5, b6⟩ := sm_PB hP hi
  have hvs := (sm_PQ hP f1).2.2.1
  obtain ⟨⟨p1, p2, p3, p4, psb⟩, q1, q2, q3⟩ := id H
  have hK : tk (fa f) % 100 = 24 := by
    obtain ⟨e1, e2⟩ := sm_xoe hP hi
    by_cases q : tk (fa f) % 100 = 24
    · exact q
    · have := e1 q; omega
  have hpop := sm_pop24 (pm := pm) hK
  have hle : sm_pop pm (tk (fa f)) ≤ fh f := by omega
  have hs : sm_s1 xo xj (fa f) = some (xj (fa f)) := by
    unfold sm_s1
    rw [if_neg (by omega), if_pos (by omega)]
  have hs2 := (sm_s1f hP hi hs).1
  have HH := H
  have RN' := sm_rnPop hP hL RN (fun _ _ z => z) (Or.inl hs) (by omega) (by omega)
  rw [← f2] at RN'
  refine sm_OUTi (xle := xle) (xpe := xpe) (sta := 2) (opn := 0) (xch := xch) (xck := xck) (xbc := xbc) (xcb := xcb) (xcc := xcc) (col := col) (res := res) (cp := cp) (lm := lm) (np := np) (nt := nt) (fr := f + 1) (sb := sb) (us := us) (bo := bo) (oc := oc) (pm := pm) (vs := vs) (mk := mk) (fi := fi) (tk := tk) (xo := xo) (xj := xj) (ow := ow) (xh := xh) (xk := xk) (xl := xl) (fp := fp) (fa := sm_u fa f (xj (fa f))) (fh := sm_u fh f (fh f - sm_pop pm (tk (fa f)))) (cb := cb) (gl := gl) (xbk := xbk) (xbp := xbp) (xbh := xbh) (sl := sl) (cn := cn) (cl := cl) (cr := cr) (fw := fw) (ou := ou) (lo := lo) (st := st) (he := he) (nu := nu) (lf := lf) (rg := rg) (hh := hh) (kk := kk) (dp := dp) (pt := pt) (hd := hd) ?_ (fun post hp => sm_xs26 h8 hi n160 hxh hh8 hx hp) (fun post hp2 yh yd yt yb ys yr => ?_)
  · exact ⟨⟨l1, l2, l3⟩, hmk, hP, hxx, HH, fun z => absurd z (by decide), fun _ => ⟨rfl, n1, hL⟩, fun _ => RN'⟩
  · refine sm_y128 hP h8 hi hf8 (fun x8 e8 => ?_)
    rw [if_neg (show ¬ ((tk (fa f) % 100 = 20 ∨ tk (fa f) % 100 = 23) ∧ _) from fun z => absurd z.1 (by omega)), hs] at e8
    subst e8
    rw [hK]
    exact br_f (by decide) (br_t (by decide) (br_f (by decide) (br_t (by decide) (br_f (by decide) (br_f (by decide) (br_t (nI_pos' (by omega)) (br_f (by decide) (sm_yc24 (sm_y549b hP h8 hi hf8 hp hle (by omega) (hp2 yh yd yt yb ys yr))))))))))
theorem sm_st20 (R : sm_REL 2 opn xch xck xbc cp lm np nt (f + 1) sb us bo oc pm vs mk fi tk xo xj ow xh xk xl fp fa fh cb gl xbk xbp xbh sl cn cl cr lo st he nu lf rg hh kk dp pt hd) (hx : xo (fa f) = 20) : sm_OUT (fun post => wpX_step post (xle, xpe, nI cp, nI lm, 2, nI np, opn, nI nt, xch, xck, xbc, nI (f + 1), nI sb, nI us, xcb, xcc, col, nI bo, nI oc, res, sm_n pm, sm_n vs, sm_n mk, sm_k gl, sm_n fi, sm_n tk, sm_n xo, sm_n (sm_ar tk), sm_n xj, sm_n ow, sm_n xh, sm_n xk, sm_n xl, xbk, xbp, xbh, sm_n fp, sm_n fa, sl, cn, cl, cr, sm_n cb, fw, ou)) (fun post => ∀ (yh yd : Int32) (yt yb ys yr : Nat → Int32), wpY_step post (nI cp, nI lm, 2, nI np, opn, nI nt, yh, yd, nI (f + 1), nI bo, col, nI oc, res, sm_n tk, sm_n fi, sm_n pm, sm_n vs, sm_n mk, sm_k gl, yt, yb, ys, yr, sm_n fp, sm_n fa, sm_n fh, lo, st, he, nu, lf, rg, ou)) := by
  obtain ⟨⟨l1, l2, l3⟩, hmk, hP, hxx, H, h0, h1, h2⟩ := R
  obtain ⟨rfl, n1, hL⟩ := h1 (by decide)
  have RN := h2 rfl
  obtain ⟨r1, r2, hF⟩ := id RN
  obtain ⟨⟨f1, hi, hp⟩, f2, f3, f4, f5⟩ := hF f (by omega)
  have f2 := f2 rfl
  have n160 := hP.1.2.1
  have h8 : f < 8 := by omega
  have hhb := sm_PH hP (show fa f ≤ nt by omega)
  have hh8 : hh (fa f) ≤ 8 := hhb.1
  have hf8 : fh f ≤ 8 := by omega
  have hxh := (hxx _ hi).1
  obtain ⟨a1, a2, a3, a4, a5, a6, a7⟩ := sm_PA hP hi
  obtain ⟨b1, b2, b3, b4, b5, b6⟩ := sm_PB hP hi
  have hvs := (sm_PQ hP f1).2.2.1
  obtain ⟨⟨p1, p2, p3, p4, psb⟩, q1, q2, q3⟩ := id H
  have hK : tk (fa f) % 100 = 20 := by
    obtain ⟨e1, e2⟩ := sm_xoe hP hi
    by_cases q : tk (fa f) % 100 = 24
    · rcases e2 q with z | z | z <;> omega
    · rw [← e1 q]; exact hx
  have hpop := sm_pop20 (pm := pm) hK
  have hle : sm_pop pm (tk (fa f)) ≤ fh f := by omega
  have hs : sm_s1 xo xj (fa f) = some (fa f + 1) := by
    unfold sm_s1
    rw [if_neg (by omega), if_neg (by omega)]
  have hs2 := (sm_s1f hP hi hs).1
  have x6e : sm_x6 st f (fh f) = st (f * 8 + (hh (fa f) - 1)) := by
    unfold sm_x6
    rw [if_neg (by omega), f2]
  have tb := (sm_tyb a1 a2 hhb.2 b1 (by omega) (by omega)).mp b3
  rw [hpop, sm_wk20 hK] at tb
  have k0 := tb 0 (by omega)
  rw [show hh (fa f) - 1 + 0 = hh (fa f) - 1 by omega, Nat.zero_testBit] at k0
  have vv := (f5 (hh (fa f) - 1) (by omega)).1 k0
  have HH := H
  have hj : sm_s2 xo xj (fa f) = some (xj (fa f)) := if_pos (by omega)
  have hj2 := (sm_s2f hP hi hj).1
  by_cases c : sl (f * 16 + 8 + (hh (fa f) - 1)) = 0
  · have RN' := sm_rnPop hP hL RN (fun _ _ z => z) (Or.inr hj) (by omega) (by omega)
    rw [← f2] at RN'
    refine sm_OUTi (xle := xle) (xpe := xpe) (sta := 2) (opn := 0) (xch := xch) (xck := xck) (xbc := xbc) (xcb := xcb) (xcc := xcc) (col := col) (res := res) (cp := cp) (lm := lm) (np := np) (nt := nt) (fr := f + 1) (sb := sb) (us := us) (bo := bo) (oc := oc) (pm := pm) (vs := vs) (mk := mk) (fi := fi) (tk := tk) (xo := xo) (xj := xj) (ow := ow) (xh := xh) (xk := xk) (xl := xl) (fp := fp) (fa := sm_u fa f (xj (fa f))) (fh := sm_u fh f (fh f - sm_pop pm (tk (fa f)))) (cb := cb) (gl := gl) (xbk := xbk) (xbp := xbp) (xbh := xbh) (sl := sl) (cn := cn) (cl := cl) (cr := cr) (fw := fw) (ou := ou) (lo := lo) (st := st) (he := he) (nu := nu) (lf := lf) (rg := rg) (hh := hh) (kk := kk) (dp := dp) (pt := pt) (hd := hd) ?_ (fun post hp => sm_xs20z h8 hi n160 hxh hh8 hx (by omega) c hp) (fun post hp2 yh yd yt yb ys yr => ?_)
    · exact ⟨⟨l1, l2, l3⟩, hmk, hP, hxx, HH, fun z => absurd z (by decide), fun _ => ⟨rfl, n1, hL⟩, fun _ => RN'⟩
    · refine sm_y128 hP h8 hi hf8 (fun x8 e8 => ?_)
      rw [x6e, ← vv, if_pos ⟨by omega, c⟩, hj] at e8
      subst e8
      rw [hK]
      exact br_f (by decide) (br_t (by decide) (br_f (by decide) (br_t (by decide) (br_f (by decide) (br_f (by decide) (br_t (nI_pos' (by omega)) (br_f (by decide) (sm_yc20 (sm_y549b hP h8 hi hf8 hp hle (by omega) (hp2 yh yd yt yb ys yr))))))))))
  · have RN' := sm_rnPop hP hL RN (fun _ _ z => z) (Or.inl hs) (by omega) (by omega)
    rw [← f2] at RN'
    refine sm_OUTi (xle := xle) (xpe := xpe) (sta := 2) (opn := 0) (xch := xch) (xck := xck) (xbc := xbc) (xcb := xcb) (xcc := xcc) (col := col) (res := res) (cp := cp) (lm := lm) (np := np) (nt := nt) (fr := f + 1) (sb := sb) (us := us) (bo := bo) (oc := oc) (pm := pm) (vs := vs) (mk := mk) (fi := fi) (tk := tk) (xo := xo) (xj := xj) (ow := ow) (xh := xh) (xk := xk) (xl := xl) (fp := fp) (fa := sm_u fa f (fa f + 1)) (fh := sm_u fh f (fh f - sm_pop pm (tk (fa f)))) (cb := cb) (gl := gl) (xbk := xbk) (xbp := xbp) (xbh := xbh) (sl := sl) (cn := cn) (cl := cl) (cr := cr) (fw := fw) (ou := ou) (lo := lo) (st := st) (he := he) (nu := nu) (lf := lf) (rg := rg) (hh := hh) (kk := kk) (dp := dp) (pt := pt) (hd := hd) ?_ (fun post hp => sm_xs20n h8 hi n160 hxh hh8 hx (by omega) c hp) (fun post hp2 yh yd yt yb ys yr => ?_)
    · exact ⟨⟨l1, l2, l3⟩, hmk, hP, hxx, HH, fun z => absurd z (by decide), fun _ => ⟨rfl, n1, hL⟩, fun _ => RN'⟩
    · refine sm_y128 hP h8 hi hf8 (fun x8 e8 => ?_)
      rw [x6e, ← vv, if_neg (fun z => c z.2), hs] at e8
      subst e8
      rw [hK]
      exact br_f (by decide) (br_t (by decide) (br_f (by decide) (br_t (by decide) (br_f (by decide) (br_f (by decide) (br_t (nI_pos' (by omega)) (br_f (by decide) (sm_yc20 (sm_y549b hP h8 hi hf8 hp hle (by omega) (hp2 yh yd yt yb ys yr))))))))))
theorem sm_st23 (R : sm_REL 2 opn xch xck xbc cp lm np nt (f + 1) sb us bo oc pm vs mk fi tk xo xj ow xh xk xl fp fa fh cb gl xbk xbp xbh sl cn cl cr lo st he nu lf rg hh kk dp pt hd) (hx : xo (fa f) = 23) : sm_OUT (fun post => wpX_step post (xle, xpe, nI cp, nI lm, 2, nI np, opn, nI nt, xch, xck, xbc, nI (f + 1), nI sb, nI us, xcb, xcc, col, nI bo, nI oc, res, sm_n pm, sm_n vs, sm_n mk, sm_k gl, sm_n fi, sm_n tk, sm_n xo, sm_n (sm_ar tk), sm_n xj, sm_n ow, sm_n xh, sm_n xk, sm_n xl, xbk, xbp, xbh, sm_n fp, sm_n fa, sl, cn, cl, cr, sm_n cb, fw, ou)) (fun post => ∀ (yh yd : Int32) (yt yb ys yr : Nat → Int32), wpY_step post (nI cp, nI lm, 2, nI np, opn, nI nt, yh, yd, nI (f + 1), nI bo, col, nI oc, res, sm_n tk, sm_n fi, sm_n pm, sm_n vs, sm_n mk, sm_k gl, yt, yb, ys, yr, sm_n fp, sm_n fa, sm_n fh, lo, st, he, nu, lf, rg, ou)) := by
  obtain ⟨⟨l1, l2, l3⟩, hmk, hP, hxx, H, h0, h1, h2⟩ := R
  obtain ⟨rfl, n1, hL⟩ := h1 (by decide)
  have RN := h2 rfl
  obtain ⟨r1, r2, hF⟩ := id RN
  obtain ⟨⟨f1, hi, hp⟩, f2, f3, f4, f5⟩ := hF f (by omega)
  have f2 := f2 rfl
  have n160 := hP.1.2.1
  have h8 : f < 8 := by omega
  have hhb := sm_PH hP (show fa f ≤ nt by omega)
  have hh8 : hh (fa f) ≤ 8 := hhb.1
  have hf8 : fh f ≤ 8 := by omega
  have hxh := (hxx _ hi).1
  obtain ⟨a1, a2, a3, a4, a5, a6, a7⟩ := sm_PA hP hi
  obtain ⟨b1, b2, b3, b4, b5, b6⟩ := sm_PB hP hi
  have hvs := (sm_PQ hP f1).2.2.1
  obtain ⟨⟨p1, p2, p3, p4, psb⟩, q1, q2, q3⟩ := id H
  have hK : tk (fa f) % 100 = 23 := by
    obtain ⟨e1, e2⟩ := sm_xoe hP hi
    by_cases q : tk (fa f) % 100 = 24
    · rcases e2 q with z | z | z <;> omega
    · rw [← e1 q]; exact hx
  have hpop := sm_pop23 (pm := pm) hK
  have hle : sm_pop pm (tk (fa f)) ≤ fh f := by omega
  have hs : sm_s1 xo xj (fa f) = some (fa f + 1) := by
    unfold sm_s1
    rw [if_neg (by omega), if_neg (by omega)]
  have hs2 := (sm_s1f hP hi hs).1
  have x6e : sm_x6 st f (fh f) = st (f * 8 + (hh (fa f) - 1)) := by
    unfold sm_x6
    rw [if_neg (by omega), f2]
  have tb := (sm_tyb a1 a2 hhb.2 b1 (by omega) (by omega)).mp b3
  rw [hpop, sm_wk23 hK] at tb
  have k0 := tb 0 (by omega)
  rw [show hh (fa f) - 1 + 0 = hh (fa f) - 1 by omega, Nat.zero_testBit] at k0
  have vv := (f5 (hh (fa f) - 1) (by omega)).1 k0
  have HH := H
  have hj : sm_s2 xo xj (fa f) = some (xj (fa f)) := if_pos (by omega)
  have hj2 := (sm_s2f hP hi hj).1
  by_cases c : sl (f * 16 + 8 + (hh (fa f) - 1)) = 0
  · have RN' := sm_rnPop hP hL RN (fun _ _ z => z) (Or.inr hj) (by omega) (by omega)
    rw [← f2] at RN'
    refine sm_OUTi (xle := xle) (xpe := xpe) (sta := 2) (opn := 0) (xch := xch) (xck := xck) (xbc := xbc) (xcb := xcb) (xcc := xcc) (col := col) (res := res) (cp := cp) (lm := lm) (np := np) (nt := nt) (fr := f + 1) (sb := sb) (us := us) (bo := bo) (oc := oc) (pm := pm) (vs := vs) (mk := mk) (fi := fi) (tk := tk) (xo := xo) (xj := xj) (ow := ow) (xh := xh) (xk := xk) (xl := xl) (fp := fp) (fa := sm_u fa f (xj (fa f))) (fh := sm_u fh f (fh f - sm_pop pm (tk (fa f)))) (cb := cb) (gl := gl) (xbk := xbk) (xbp := xbp) (xbh := xbh) (sl := sl) (cn := cn) (cl := cl) (cr := cr) (fw := fw) (ou := ou) (lo := lo) (st := st) (he := he) (nu := nu) (lf := lf) (rg := rg) (hh := hh) (kk := kk) (dp := dp) (pt := pt) (hd := hd) ?_ (fun post hp => sm_xs23z h8 hi n160 hxh hh8 hx (by omega) c hp) (fun post hp2 yh yd yt yb ys yr => ?_)
    · exact ⟨⟨l1, l2, l3⟩, hmk, hP, hxx, HH, fun z => absurd z (by decide), fun _ => ⟨rfl, n1, hL⟩, fun _ => RN'⟩
    · refine sm_y128 hP h8 hi hf8 (fun x8 e8 => ?_)
      rw [x6e, ← vv, if_pos ⟨by omega, c⟩, hj] at e8
      subst e8
      rw [hK]
      exact br_f (by decide) (br_t (by decide) (br_f (by decide) (br_t (by decide) (br_f (by decide) (br_f (by decide) (br_t (nI_pos' (by omega)) (br_f (by decide) (sm_yc23 (sm_y549b hP h8 hi hf8 hp hle (by omega) (hp2 yh yd yt yb ys yr))))))))))
  · have RN' := sm_rnPop hP hL RN (fun _ _ z => z) (Or.inl hs) (by omega) (by omega)
    rw [← f2] at RN'
    refine sm_OUTi (xle := xle) (xpe := xpe) (sta := 2) (opn := 0) (xch := xch) (xck := xck) (xbc := xbc) (xcb := xcb) (xcc := xcc) (col := col) (res := res) (cp := cp) (lm := lm) (np := np) (nt := nt) (fr := f + 1) (sb := sb) (us := us) (bo := bo) (oc := oc) (pm := pm) (vs := vs) (mk := mk) (fi := fi) (tk := tk) (xo := xo) (xj := xj) (ow := ow) (xh := xh) (xk := xk) (xl := xl) (fp := fp) (fa := sm_u fa f (fa f + 1)) (fh := sm_u fh f (fh f - sm_pop pm (tk (fa f)))) (cb := cb) (gl := gl) (xbk := xbk) (xbp := xbp) (xbh := xbh) (sl := sl) (cn := cn) (cl := cl) (cr := cr) (fw := fw) (ou := ou) (lo := lo) (st := st) (he := he) (nu := nu) (lf := lf) (rg := rg) (hh := hh) (kk := kk) (dp := dp) (pt := pt) (hd := hd) ?_ (fun post hp => sm_xs23n h8 hi n160 hxh hh8 hx (by omega) c hp) (fun post hp2 yh yd yt yb ys yr => ?_)
    · exact ⟨⟨l1, l2, l3⟩, hmk, hP, hxx, HH, fun z => absurd z (by decide), fun _ => ⟨rfl, n1, hL⟩, fun _ => RN'⟩
    · refine sm_y128 hP h8 hi hf8 (fun x8 e8 => ?_)
      rw [x6e, ← vv, if_neg (fun z => c z.2), hs] at e8
      subst e8
      rw [hK]
      exact br_f (by decide) (br_t (by decide) (br_f (by decide) (br_t (by decide) (br_f (by decide) (br_f (by decide) (br_t (nI_pos' (by omega)) (br_f (by decide) (sm_yc23 (sm_y549b hP h8 hi hf8 hp hle (by omega) (hp2 yh yd yt yb ys yr))))))))))
end
end
section
/-! both sides step together (printed by mk32.py) -/
section
variable {xle xpe sta opn xch xck xbc xcb xcc col res yh yd : Int32} {cp lm np nt fr sb us bo oc : Nat} {pm vs mk fi tk xo xj ow xh xk xl fp fa fh cb : Nat → Nat} {gl : Nat → Bool} {xbk xbp xbh sl cn cl cr fw ou yt yb ys yr lo st he nu lf rg : Nat → Int32} {hh kk dp : Nat → Nat} {pt hd : Nat → Nat → Nat}
variable {f : Nat}

theorem sm_xba {post : Int32 → Prop} {a b : Int32} (hsb : sb ≤ 16) (hu : us ≤ 16) (hV : sm_VR us sb cb a b) (h : post b) : wpX_birthAt post (xle, xpe, nI cp, nI lm, sta, nI np, opn, nI nt, xch, xck, xbc, nI fr, nI sb, nI us, xcb, xcc, col, nI bo, nI oc, res, sm_n pm, sm_n vs, sm_n mk, sm_k gl, sm_n fi, sm_n tk, sm_n xo, sm_n (sm_ar tk), sm_n xj, sm_n ow, sm_n xh, sm_n xk, sm_n xl, xbk, xbp, xbh, sm_n fp, sm_n fa, sl, cn, cl, cr, sm_n cb, fw, ou) a := by
  rcases hV with ⟨e1, e2⟩ | ⟨c, c1, c2, c3⟩
  · rw [e1]
    rw [e2] at h
    exact br_t (by decide) h
  · rw [c2]
    rw [c3] at h
    refine br_f (nI_nlt (b := 1) (by omega) (by omega)) (br_t (nI_le (b := 32) (by omega) (by decide)) ?_)
    rw [nI_clamp (by omega), sm_nap]
    exact ⟨vp_in_nI (by omega) (by decide), h⟩
/-- the top frame leaves, another stands below it -/
theorem sm_rnRet {g : Nat} {a b : Int32} (hP : sm_PG 0 np nt pm vs mk gl fi tk xo xj ow hh kk dp pt hd) (hL : sm_LV nt tk xo xj xl) (hF : sm_RN np nt (g + 1 + 1) us sb lm pm vs mk tk ow hh kk xl fp fa fh cb sl lo st) (hv : sm_VK us sb cb (gl (fp (g + 1))) a b) :
    sm_RN np nt (g + 1) us sb lm pm vs mk tk ow hh kk xl fp (sm_u fa g (fa g + 1)) (sm_u fh g (fh g + 1)) cb (upd sl (g * 16 + 8 + fh g) a) lo (upd st (g * 8 + fh g) b) ∧ tk (fa g) % 100 = 13 ∧ tk (fa g) / 100 < np ∧ fh g + pm (tk (fa g) / 100) = hh (fa g) ∧ fh g < 8 ∧ fa g + 1 < nt := by
  obtain ⟨r1, r2, hF⟩ := hF
  obtain ⟨f1, f2, f3, f4, f5⟩ := hF g (by omega)
  obtain ⟨c1, c2, c3⟩ := f3 (by omega)
  obtain ⟨a1, a2, a3, a4, a5, a6, a7⟩ := sm_PA hP f1.2.1
  have hxo : xo (fa g) = 13 := by rw [(sm_xoe hP f1.2.1).1 (by omega)]; exact c1
  have hs : sm_s1 xo xj (fa g) = some (fa g + 1) := by
    unfold sm_s1
    rw [if_neg (by omega), if_neg (by omega)]
  obtain ⟨s1, s2, s3, s4⟩ := sm_s1f hP f1.2.1 hs
  obtain ⟨b1, b2, b3, b4, b5, b6⟩ := sm_PB hP f1.2.1
  have hpop := sm_pop13 (pm := pm) c1
  have hps := sm_ps13 c1
  have e2 : sm_h2 pm (tk (fa g)) (hh (fa g)) = fh g + 1 := by
    unfold sm_h2
    rw [hpop, hps]
    omega
  have hvs := (sm_PQ hP f1.1).2.2.1
  rw [b4, e2] at b5
  refine ⟨⟨by omega, by omega, fun q hq => ?_⟩, c1, a6 c1, c2, by omega, s1⟩
  by_cases eq : q = g
  · subst eq
    unfold sm_FR
    rw [sm_us, sm_us]
    refine ⟨⟨f1.1, s1, by rw [s2]; exact f1.2.2⟩, fun _ => by rw [b4, e2], fun z => by omega, fun v hv2 => ?_, fun j hj => ?_⟩
    · rw [pk_un (by omega)]
      exact ⟨(f4 v hv2).1, fun z1 z2 => (f4 v hv2).2 z1 (sm_lmono hP hL f1.2.1 (by omega) (Or.inl hs) (by omega) z2)⟩
    · rw [b6, sm_k2t, hpop, show hh (fa q) - pm (tk (fa q) / 100) = fh q by omega]
      by_cases ej : j = fh q
      · rw [ej, pk_us, pk_us, if_neg (by omega), decide_eq_true (show tk (fa q) % 100 ≤ 13 by omega), decide_eq_true rfl, sm_pk13 c1, ← c3]
        exact hv
      · rw [pk_un (by omega), pk_un (by omega), if_pos (by omega)]
        exact f5 j (by omega)
  · obtain ⟨g1, g2, g3, g4, g5⟩ := hF q (by omega)
    have h88 := sm_fh8 hP (show q < g + 1 + 1 by omega) ⟨g1, g2, g3, g4, g5⟩
    unfold sm_FR
    rw [sm_un eq, sm_un eq]
    refine ⟨g1, fun z => by omega, fun z => g3 (by omega), fun v hv2 => ?_, fun j hj => ?_⟩
    · rw [pk_un (by omega)]; exact g4 v hv2
    · rw [pk_un (by omega), pk_un (by omega)]; exact g5 j hj
/-- the component leaves its last frame -/
theorem sm_xl0 {post : SX → Prop} {a b : Int32} (hsb : sb ≤ 16) (hu : us ≤ 16) (np8 : np ≤ 8) (hp : fp 0 < np) (hv : sm_VK us sb cb (gl (fp 0)) a b) (h : post (xle, xpe, nI cp, nI lm, 3, nI np, opn, nI nt, xch, xck, xbc, nI 0, nI sb, nI us, xcb, xcc, col, nI bo, nI oc, b, sm_n pm, sm_n vs, sm_n mk, sm_k gl, sm_n fi, sm_n tk, sm_n xo, sm_n (sm_ar tk), sm_n xj, sm_n ow, sm_n xh, sm_n xk, sm_n xl, xbk, xbp, xbh, sm_n fp, sm_n fa, sl, cn, cl, cr, sm_n cb, fw, ou)) : wpX_leave post (xle, xpe, nI cp, nI lm, sta, nI np, opn, nI nt, xch, xck, xbc, nI (0 + 1), nI sb, nI us, xcb, xcc, col, nI bo, nI oc, res, sm_n pm, sm_n vs, sm_n mk, sm_k gl, sm_n fi, sm_n tk, sm_n xo, sm_n (sm_ar tk), sm_n xj, sm_n ow, sm_n xh, sm_n xk, sm_n xl, xbk, xbp, xbh, sm_n fp, sm_n fa, sl, cn, cl, cr, sm_n cb, fw, ou) a := by
  have e1 : nI (0 + 1) - 1 = nI 0 := nI_pred 0
  have c0 : (nI 0).toNatClampNeg = 0 := nI_clamp (by omega)
  have cp1 : (nI (fp 0)).toNatClampNeg = fp 0 := nI_clamp (by omega)
  refine And.intro (by rw [e1]; exact vp_in_nI (by omega) (by decide)) (And.intro (by rw [e1, c0, sm_nap]; exact vp_in_nI (by omega) (by decide)) (nm_r (e' := nI (gl (fp 0)).toNat) (by rw [e1, c0, sm_nap, cp1, sm_kap]) (nm_r e1 (br_t rfl ?_))))
  cases hg : gl (fp 0)
  · rw [hg] at hv
    rw [hv.1 rfl]
    exact br_f (by decide) h
  · rw [hg] at hv
    exact br_t (by decide) (sm_xba hsb hu (hv.2 rfl) h)
theorem sm_xl1 {post : SX → Prop} {g : Nat} {a : Int32} (h8 : g + 1 < 8) (n160 : nt ≤ 160) (np8 : np ≤ 8) (hp : fp (g + 1) < np) (hi : fa g < nt) (h13 : tk (fa g) / 100 < np) (hxh : xh (fa g) = hh (fa g)) (hh8 : hh (fa g) ≤ 8) (hf : fh g + pm (tk (fa g) / 100) = hh (fa g)) (hf8 : fh g < 8)
    (h : post (xle, xpe, nI cp, nI lm, sta, nI np, opn, nI nt, xch, xck, xbc, nI (g + 1), nI sb, nI us, xcb, xcc, col, nI bo, nI oc, res, sm_n pm, sm_n vs, sm_n mk, sm_k gl, sm_n fi, sm_n tk, sm_n xo, sm_n (sm_ar tk), sm_n xj, sm_n ow, sm_n xh, sm_n xk, sm_n xl, xbk, xbp, xbh, sm_n fp, sm_n (sm_u fa g (fa g + 1)), upd sl (g * 16 + 8 + fh g) a, cn, cl, cr, sm_n cb, fw, ou)) : wpX_leave post (xle, xpe, nI cp, nI lm, sta, nI np, opn, nI nt, xch, xck, xbc, nI (g + 1 + 1), nI sb, nI us, xcb, xcc, col, nI bo, nI oc, res, sm_n pm, sm_n vs, sm_n mk, sm_k gl, sm_n fi, sm_n tk, sm_n xo, sm_n (sm_ar tk), sm_n xj, sm_n ow, sm_n xh, sm_n xk, sm_n xl, xbk, xbp, xbh, sm_n fp, sm_n fa, sl, cn, cl, cr, sm_n cb, fw, ou) a := by
  have e1 : nI (g + 1 + 1) - 1 = nI (g + 1) := nI_pred (g + 1)
  have e2 : nI (g + 1) - 1 = nI g := nI_pred g
  have c1 : (nI (g + 1)).toNatClampNeg = g + 1 := nI_clamp (by omega)
  have cg : (nI g).toNatClampNeg = g := nI_clamp (by omega)
  have cp1 : (nI (fp (g + 1))).toNatClampNeg = fp (g + 1) := nI_clamp (by omega)
  have vg : vp_in (nI g) 8 := vp_in_nI (by omega) (by decide)
  have vi : vp_in (nI (fa g)) 160 := vp_in_nI (by omega) (by decide)
  have ci : (nI (fa g)).toNatClampNeg = fa g := nI_clamp (by omega)
  have ea : nI g * 16 + 8 + nI (fh g) = nI (g * 16 + 8 + fh g) := by rw [sm_mu16, sm_ad8, nI_add]
  refine And.intro (by rw [e1]; exact vp_in_nI (by omega) (by decide)) (And.intro (by rw [e1, c1, sm_nap]; exact vp_in_nI (by omega) (by decide)) (nm_r (e' := nI (gl (fp (g + 1))).toNat) (by rw [e1, c1, sm_nap, cp1, sm_kap]) (nm_r e1 (br_f (nI_ne0 (by omega) (by omega)) (nm_r e2 (And.intro vg (nm_r (e' := nI (fa g)) (by rw [cg, sm_nap]) (And.intro vi (And.intro vi (And.intro (by rw [ci, sm_nap, sm_arap]; exact vp_in_nI (by omega) (by decide)) (nm_r (e' := nI (fh g)) ?_ (And.intro (by rw [ea]; exact vp_in_nI (by omega) (by decide)) (nm_r (e' := upd sl (g * 16 + 8 + fh g) a) (by rw [ea, nI_clamp (by omega)]) (And.intro vg (nm_r (e' := sm_n (sm_u fa g (fa g + 1))) (by rw [cg, nI_1, sm_nu]) h)))))))))))))))
  rw [ci, sm_nap xh, sm_nap (sm_ar tk), sm_arap, nI_clamp (show tk (fa g) / 100 < 2 ^ 31 by omega), sm_nap, hxh, pk_sub (by omega)]
  congr 1
  omega
theorem sm_yl0 {post : SY → Prop} {b : Int32} (h : post (nI cp, nI lm, 3, nI np, opn, nI nt, yh, yd, nI 0, nI bo, col, nI oc, b, sm_n tk, sm_n fi, sm_n pm, sm_n vs, sm_n mk, sm_k gl, yt, yb, ys, yr, sm_n fp, sm_n fa, sm_n fh, lo, st, he, nu, lf, rg, ou)) : wpY_leave post (nI cp, nI lm, sta, nI np, opn, nI nt, yh, yd, nI (0 + 1), nI bo, col, nI oc, res, sm_n tk, sm_n fi, sm_n pm, sm_n vs, sm_n mk, sm_k gl, yt, yb, ys, yr, sm_n fp, sm_n fa, sm_n fh, lo, st, he, nu, lf, rg, ou) b :=
  nm_r (nI_pred 0) (br_t rfl h)
theorem sm_yl1 {post : SY → Prop} {g : Nat} {b : Int32} (h8 : g + 1 < 8) (hf8 : fh g < 8) (h : post (nI cp, nI lm, sta, nI np, opn, nI nt, yh, yd, nI (g + 1), nI bo, col, nI oc, res, sm_n tk, sm_n fi, sm_n pm, sm_n vs, sm_n mk, sm_k gl, yt, yb, ys, yr, sm_n fp, sm_n (sm_u fa g (fa g + 1)), sm_n (sm_u fh g (fh g + 1)), lo, upd st (g * 8 + fh g) b, he, nu, lf, rg, ou)) : wpY_leave post (nI cp, nI lm, sta, nI np, opn, nI nt, yh, yd, nI (g + 1 + 1), nI bo, col, nI oc, res, sm_n tk, sm_n fi, sm_n pm, sm_n vs, sm_n mk, sm_k gl, yt, yb, ys, yr, sm_n fp, sm_n fa, sm_n fh, lo, st, he, nu, lf, rg, ou) b := by
  have cg : (nI g).toNatClampNeg = g := nI_clamp (by omega)
  have vg : vp_in (nI g) 8 := vp_in_nI (by omega) (by decide)
  have ea : nI g * 8 + sm_n fh (nI g).toNatClampNeg = nI (g * 8 + fh g) := by rw [cg, sm_nap, sm_mu8, nI_add]
  exact nm_r (nI_pred (g + 1)) (br_f (nI_ne0 (by omega) (by omega)) (nm_r (nI_pred g) (And.intro vg (And.intro (by rw [ea]; exact vp_in_nI (by omega) (by decide)) (nm_r (e' := upd st (g * 8 + fh g) b) (by rw [ea, nI_clamp (by omega)]) (And.intro vg (And.intro vg (nm_r (e' := sm_n (sm_u fh g (fh g + 1))) (by rw [cg, sm_nap, nI_1, sm_nu]) (And.intro vg (And.intro vg (nm_r (e' := sm_n (sm_u fa g (fa g + 1))) (by rw [cg, sm_nap, nI_1, sm_nu]) h)))))))))))
theorem sm_xs25 {h : Nat} {post : SX → Prop} (h8 : f < 8) (hi : fa f < nt) (n160 : nt ≤ 160) (hxh : xh (fa f) = h) (hh8 : h ≤ 8) (hx : xo (fa f) = 25) (hh1 : 1 ≤ h) (hp : ∀ Q : SX → Prop, (∀ u, post u → Q u) → wpX_leave Q (xle, xpe, nI cp, nI lm, sta, nI np, opn, nI nt, xch, xck, xbc, nI (f + 1), nI sb, nI us, xcb, xcc, col, nI bo, nI oc, res, sm_n pm, sm_n vs, sm_n mk, sm_k gl, sm_n fi, sm_n tk, sm_n xo, sm_n (sm_ar tk), sm_n xj, sm_n ow, sm_n xh, sm_n xk, sm_n xl, xbk, xbp, xbh, sm_n fp, sm_n fa, sl, cn, cl, cr, sm_n cb, fw, ou) (sl (f * 16 + 8 + (h - 1)))) : wpX_step post (xle, xpe, nI cp, nI lm, sta, nI np, opn, nI nt, xch, xck, xbc, nI (f + 1), nI sb, nI us, xcb, xcc, col, nI bo, nI oc, res, sm_n pm, sm_n vs, sm_n mk, sm_k gl, sm_n fi, sm_n tk, sm_n xo, sm_n (sm_ar tk), sm_n xj, sm_n ow, sm_n xh, sm_n xk, sm_n xl, xbk, xbp, xbh, sm_n fp, sm_n fa, sl, cn, cl, cr, sm_n cb, fw, ou) := by
  have v8 : vp_in (nI f) 8 := vp_in_nI h8 (by decide)
  have c8 : (nI f).toNatClampNeg = f := nI_clamp (by omega)
  have vi : vp_in (nI (fa f)) 160 := vp_in_nI (by omega) (by decide)
  have ci : (nI (fa f)).toNatClampNeg = fa f := nI_clamp (by omega)
  have eo : sm_n xo (nI (fa f)).toNatClampNeg = nI 25 := by rw [ci, sm_nap, hx]
  have eA : nI f * 16 + sm_n (sm_ar tk) (nI (fa f)).toNatClampNeg = nI (f * 16 + tk (fa f) / 100) := by rw [ci, sm_nap, sm_arap, sm_mu16, nI_add]
  have eT1 : nI (f * 16 + 8 + h) - 1 = nI (f * 16 + 8 + (h - 1)) := by rw [sm_sb1 (by omega)]; congr 1; omega
  have vT1 : vp_in (nI (f * 16 + 8 + h) - 1) 128 := by rw [eT1]; exact vp_in_nI (by omega) (by decide)
  have cT1 : (nI (f * 16 + 8 + h) - 1).toNatClampNeg = f * 16 + 8 + (h - 1) := by rw [eT1]; exact nI_clamp (by omega)
  have hp := hp (fun u => match u with | (a0, a1, a2, a3, a4, a5, a6, a7, a8, a9, a10, a11, a12, a13, a14, a15, a16, a17, a18, a19, a20, a21, a22, a23, a24, a25, a26, a27, a28, a29, a30, a31, a32, a33, a34, a35, a36, a37, a38, a39, a40, a41, a42, a43, a44) => post (a0, a1, a2, a3, a4, a5, a6, a7, a8, a9, a10, a11, a12, a13, a14, a15, a16, a17, a18, a19, a20, a21, a22, a23, a24, a25, a26, a27, a28, a29, a30, a31, a32, a33, a34, a35, a36, a37, a38, a39, a40, a41, a42, a43, a44)) (fun u hu => by
    obtain ⟨a0, a1, a2, a3, a4, a5, a6, a7, a8, a9, a10, a11, a12, a13, a14, a15, a16, a17, a18, a19, a20, a21, a22, a23, a24, a25, a26, a27, a28, a29, a30, a31, a32, a33, a34, a35, a36, a37, a38, a39, a40, a41, a42, a43, a44⟩ := u
    exact hu)
  exact nm_r (e' := nI f) (nI_pred f) (br_t (nI_pos' (by omega)) (And.intro v8 (nm_r (e' := nI (fa f)) (by rw [c8, sm_nap]) (And.intro vi (nm_r (e' := nI 25) eo (And.intro vi (nm_r (e' := nI (f * 16 + 8 + h)) (by rw [ci, sm_nap, hxh, sm_mu16, sm_ad8, nI_add]) (br_t (by decide) (br_t (by decide) (br_f (by decide) (br_t (by decide) (br_f (by decide) (br_f (by decide) (br_t (by decide) (br_f (by decide) (br_t (by decide) (And.intro vT1 (by rw [cT1]; exact hp))))))))))))))))))
theorem sm_xs27 {h : Nat} {post : SX → Prop} (h8 : f < 8) (hi : fa f < nt) (n160 : nt ≤ 160) (hxh : xh (fa f) = h) (hh8 : h ≤ 8) (hx : xo (fa f) = 27) (hp : ∀ Q : SX → Prop, (∀ u, post u → Q u) → wpX_leave Q (xle, xpe, nI cp, nI lm, sta, nI np, opn, nI nt, xch, xck, xbc, nI (f + 1), nI sb, nI us, xcb, xcc, col, nI bo, nI oc, res, sm_n pm, sm_n vs, sm_n mk, sm_k gl, sm_n fi, sm_n tk, sm_n xo, sm_n (sm_ar tk), sm_n xj, sm_n ow, sm_n xh, sm_n xk, sm_n xl, xbk, xbp, xbh, sm_n fp, sm_n fa, sl, cn, cl, cr, sm_n cb, fw, ou) (0)) : wpX_step post (xle, xpe, nI cp, nI lm, sta, nI np, opn, nI nt, xch, xck, xbc, nI (f + 1), nI sb, nI us, xcb, xcc, col, nI bo, nI oc, res, sm_n pm, sm_n vs, sm_n mk, sm_k gl, sm_n fi, sm_n tk, sm_n xo, sm_n (sm_ar tk), sm_n xj, sm_n ow, sm_n xh, sm_n xk, sm_n xl, xbk, xbp, xbh, sm_n fp, sm_n fa, sl, cn, cl, cr, sm_n cb, fw, ou) := by
  have v8 : vp_in (nI f) 8 := vp_in_nI h8 (by decide)
  have c8 : (nI f).toNatClampNeg = f := nI_clamp (by omega)
  have vi : vp_in (nI (fa f)) 160 := vp_in_nI (by omega) (by decide)
  have ci : (nI (fa f)).toNatClampNeg = fa f := nI_clamp (by omega)
  have eo : sm_n xo (nI (fa f)).toNatClampNeg = nI 27 := by rw [ci, sm_nap, hx]
  have eA : nI f * 16 + sm_n (sm_ar tk) (nI (fa f)).toNatClampNeg = nI (f * 16 + tk (fa f) / 100) := by rw [ci, sm_nap, sm_arap, sm_mu16, nI_add]
  have vT : h < 8 → vp_in (nI (f * 16 + 8 + h)) 128 := fun z => vp_in_nI (by omega) (by decide)
  have cT : (nI (f * 16 + 8 + h)).toNatClampNeg = f * 16 + 8 + h := nI_clamp (by omega)
  have hp := hp (fun u => match u with | (a0, a1, a2, a3, a4, a5, a6, a7, a8, a9, a10, a11, a12, a13, a14, a15, a16, a17, a18, a19, a20, a21, a22, a23, a24, a25, a26, a27, a28, a29, a30, a31, a32, a33, a34, a35, a36, a37, a38, a39, a40, a41, a42, a43, a44) => post (a0, a1, a2, a3, a4, a5, a6, a7, a8, a9, a10, a11, a12, a13, a14, a15, a16, a17, a18, a19, a20, a21, a22, a23, a24, a25, a26, a27, a28, a29, a30, a31, a32, a33, a34, a35, a36, a37, a38, a39, a40, a41, a42, a43, a44)) (fun u hu => by
    obtain ⟨a0, a1, a2, a3, a4, a5, a6, a7, a8, a9, a10, a11, a12, a13, a14, a15, a16, a17, a18, a19, a20, a21, a22, a23, a24, a25, a26, a27, a28, a29, a30, a31, a32, a33, a34, a35, a36, a37, a38, a39, a40, a41, a42, a43, a44⟩ := u
    exact hu)
  exact nm_r (e' := nI f) (nI_pred f) (br_t (nI_pos' (by omega)) (And.intro v8 (nm_r (e' := nI (fa f)) (by rw [c8, sm_nap]) (And.intro vi (nm_r (e' := nI 27) eo (And.intro vi (nm_r (e' := nI (f * 16 + 8 + h)) (by rw [ci, sm_nap, hxh, sm_mu16, sm_ad8, nI_add]) (br_t (by decide) (br_t (by decide) (br_f (by decide) (br_t (by decide) (br_f (by decide) (br_f (by decide) (br_t (by decide) (br_f (by decide) (br_f (by decide) (br_t (by decide) (hp))))))))))))))))))
theorem sm_st25 (R : sm_REL 2 opn xch xck xbc cp lm np nt (f + 1) sb us bo oc pm vs mk fi tk xo xj ow xh xk xl fp fa fh cb gl xbk xbp xbh sl cn cl cr lo st he nu lf rg hh kk dp pt hd) (hx : xo (fa f) = 25) : sm_OUT (fun post => wpX_step post (xle, xpe, nI cp, nI lm, 2, nI np, opn, nI nt, xch, xck, xbc, nI (f + 1), nI sb, nI us, xcb, xcc, col, nI bo, nI oc, res, sm_n pm, sm_n vs, sm_n mk, sm_k gl, sm_n fi, sm_n tk, sm_n xo, sm_n (sm_ar tk), sm_n xj, sm_n ow, sm_n xh, sm_n xk, sm_n xl, xbk, xbp, xbh, sm_n fp, sm_n fa, sl, cn, cl, cr, sm_n cb, fw, ou)) (fun post => ∀ (yh yd : Int32) (yt yb ys yr : Nat → Int32), wpY_step post (nI cp, nI lm, 2, nI np, opn, nI nt, yh, yd, nI (f + 1), nI bo, col, nI oc, res, sm_n tk, sm_n fi, sm_n pm, sm_n vs, sm_n mk, sm_k gl, yt, yb, ys, yr, sm_n fp, sm_n fa, sm_n fh, lo, st, he, nu, lf, rg, ou)) := by
  obtain ⟨⟨l1, l2, l3⟩, hmk, hP, hxx, H, h0, h1, h2⟩ := R
  obtain ⟨rfl, n1, hL⟩ := h1 (by decide)
  have RN := h2 rfl
  obtain ⟨r1, r2, hF⟩ := id RN
  obtain ⟨⟨f1, hi, hp⟩, f2, f3, f4, f5⟩ := hF f (by omega)
  have f2 := f2 rfl
  have n160 := hP.1.2.1
  have h8 : f < 8 := by omega
  have hhb := sm_PH hP (show fa f ≤ nt by omega)
  have hh8 : hh (fa f) ≤ 8 := hhb.1
  have hf8 : fh f ≤ 8 := by omega
  have hxh := (hxx _ hi).1
  obtain ⟨a1, a2, a3, a4, a5, a6, a7⟩ := sm_PA hP hi
  obtain ⟨b1, b2, b3, b4, b5, b6⟩ := sm_PB hP hi
  have hvs := (sm_PQ hP f1).2.2.1
  obtain ⟨⟨p1, p2, p3, p4, psb⟩, q1, q2, q3⟩ := id H
  have hK : tk (fa f) % 100 = 25 := by
    obtain ⟨e1, e2⟩ := sm_xoe hP hi
    by_cases q : tk (fa f) % 100 = 24
    · rcases e2 q with z | z | z <;> omega
    · rw [← e1 q]; exact hx
  have hpop := sm_pop25 (pm := pm) hK
  have hle : sm_pop pm (tk (fa f)) ≤ fh f := by omega
  have n8 := hP.1.1
  have hs : sm_s1 xo xj (fa f) = none := if_pos (by omega)
  have x6e : sm_x6 st f (fh f) = st (f * 8 + (hh (fa f) - 1)) := by
    unfold sm_x6
    rw [if_neg (by omega), f2]
  have tb := (sm_tyb a1 a2 hhb.2 b1 (by omega) (by omega)).mp b3
  rw [hpop, sm_wk25 hK, hp] at tb
  have k0 := tb 0 (by omega)
  rw [show hh (fa f) - 1 + 0 = hh (fa f) - 1 by omega] at k0
  have k1 : (kk (fa f)).testBit (hh (fa f) - 1) = gl (fp f) := by
    rw [k0]
    cases gl (fp f) <;> rfl
  have vk := f5 (hh (fa f) - 1) (by omega)
  rw [k1] at vk
  obtain ⟨va, ea⟩ : ∃ va : Int32, va = sl (f * 16 + 8 + (hh (fa f) - 1)) := ⟨_, rfl⟩
  obtain ⟨vb, eb⟩ : ∃ vb : Int32, vb = st (f * 8 + (hh (fa f) - 1)) := ⟨_, rfl⟩
  rw [← ea, ← eb] at vk
  have HH := H
  by_cases c : f = 0
  · subst c
    refine sm_OUTi (xle := xle) (xpe := xpe) (sta := 3) (opn := 0) (xch := xch) (xck := xck) (xbc := xbc) (xcb := xcb) (xcc := xcc) (col := col) (res := vb) (cp := cp) (lm := lm) (np := np) (nt := nt) (fr := 0) (sb := sb) (us := us) (bo := bo) (oc := oc) (pm := pm) (vs := vs) (mk := mk) (fi := fi) (tk := tk) (xo := xo) (xj := xj) (ow := ow) (xh := xh) (xk := xk) (xl := xl) (fp := fp) (fa := fa) (fh := fh) (cb := cb) (gl := gl) (xbk := xbk) (xbp := xbp) (xbh := xbh) (sl := sl) (cn := cn) (cl := cl) (cr := cr) (fw := fw) (ou := ou) (lo := lo) (st := st) (he := he) (nu := nu) (lf := lf) (rg := rg) (hh := hh) (kk := kk) (dp := dp) (pt := pt) (hd := hd) ?_ (fun post hp => sm_xs25 h8 hi n160 hxh hh8 hx (by omega) (fun Q eQ => by rw [← ea]; exact sm_xl0 (by omega) (by omega) n8 f1 vk (eQ _ hp))) (fun post hp2 yh yd yt yb ys yr => ?_)
    · exact ⟨⟨l1, l2, l3⟩, hmk, hP, hxx, H, fun z => absurd z (by decide), fun _ => ⟨rfl, n1, hL⟩, fun z => absurd z (by decide)⟩
    · refine sm_y128 hP h8 hi hf8 (fun x8 e8 => ?_)
      rw [if_neg (show ¬ ((tk (fa 0) % 100 = 20 ∨ tk (fa 0) % 100 = 23) ∧ _) from fun z => absurd z.1 (by omega)), hs] at e8
      subst e8
      rw [hK]
      exact br_f (by decide) (br_t (by decide) (br_f (by decide) (br_t (by decide) (br_f (by decide) (br_f (by decide) (br_f (by decide) (br_t (by decide) (by rw [x6e]; exact sm_yl0 (by rw [← eb]; exact hp2 yh yd yt yb ys yr)))))))))
  · obtain ⟨g, rfl⟩ : ∃ g, f = g + 1 := ⟨f - 1, by omega⟩
    obtain ⟨RN', c1, c2, c3, c4, c5⟩ := sm_rnRet (a := va) (b := vb) hP hL RN vk
    have hig := (hF g (by omega)).1.2.1
    have hhg := sm_PH hP (show fa g ≤ nt by omega)
    refine sm_OUTi (xle := xle) (xpe := xpe) (sta := 2) (opn := 0) (xch := xch) (xck := xck) (xbc := xbc) (xcb := xcb) (xcc := xcc) (col := col) (res := res) (cp := cp) (lm := lm) (np := np) (nt := nt) (fr := g + 1) (sb := sb) (us := us) (bo := bo) (oc := oc) (pm := pm) (vs := vs) (mk := mk) (fi := fi) (tk := tk) (xo := xo) (xj := xj) (ow := ow) (xh := xh) (xk := xk) (xl := xl) (fp := fp) (fa := sm_u fa g (fa g + 1)) (fh := sm_u fh g (fh g + 1)) (cb := cb) (gl := gl) (xbk := xbk) (xbp := xbp) (xbh := xbh) (sl := upd sl (g * 16 + 8 + fh g) va) (cn := cn) (cl := cl) (cr := cr) (fw := fw) (ou := ou) (lo := lo) (st := upd st (g * 8 + fh g) vb) (he := he) (nu := nu) (lf := lf) (rg := rg) (hh := hh) (kk := kk) (dp := dp) (pt := pt) (hd := hd) ?_ (fun post hp => sm_xs25 h8 hi n160 hxh hh8 hx (by omega) (fun Q eQ => by rw [← ea]; exact sm_xl1 (by omega) n160 n8 f1 hig c2 (hxx _ hig).1 hhg.1 c3 c4 (eQ _ hp))) (fun post hp2 yh yd yt yb ys yr => ?_)
    · exact ⟨⟨l1, l2, l3⟩, hmk, hP, hxx, HH, fun z => absurd z (by decide), fun _ => ⟨rfl, n1, hL⟩, fun _ => RN'⟩
    · refine sm_y128 hP h8 hi hf8 (fun x8 e8 => ?_)
      rw [if_neg (show ¬ ((tk (fa (g + 1)) % 100 = 20 ∨ tk (fa (g + 1)) % 100 = 23) ∧ _) from fun z => absurd z.1 (by omega)), hs] at e8
      subst e8
      rw [hK]
      exact br_f (by decide) (br_t (by decide) (br_f (by decide) (br_t (by decide) (br_f (by decide) (br_f (by decide) (br_f (by decide) (br_t (by decide) (by rw [x6e]; exact sm_yl1 (by omega) c4 (by rw [← eb]; exact hp2 yh yd yt yb ys yr)))))))))
theorem sm_st27 (R : sm_REL 2 opn xch xck xbc cp lm np nt (f + 1) sb us bo oc pm vs mk fi tk xo xj ow xh xk xl fp fa fh cb gl xbk xbp xbh sl cn cl cr lo st he nu lf rg hh kk dp pt hd) (hx : xo (fa f) = 27) : sm_OUT (fun post => wpX_step post (xle, xpe, nI cp, nI lm, 2, nI np, opn, nI nt, xch, xck, xbc, nI (f + 1), nI sb, nI us, xcb, xcc, col, nI bo, nI oc, res, sm_n pm, sm_n vs, sm_n mk, sm_k gl, sm_n fi, sm_n tk, sm_n xo, sm_n (sm_ar tk), sm_n xj, sm_n ow, sm_n xh, sm_n xk, sm_n xl, xbk, xbp, xbh, sm_n fp, sm_n fa, sl, cn, cl, cr, sm_n cb, fw, ou)) (fun post => ∀ (yh yd : Int32) (yt yb ys yr : Nat → Int32), wpY_step post (nI cp, nI lm, 2, nI np, opn, nI nt, yh, yd, nI (f + 1), nI bo, col, nI oc, res, sm_n tk, sm_n fi, sm_n pm, sm_n vs, sm_n mk, sm_k gl, yt, yb, ys, yr, sm_n fp, sm_n fa, sm_n fh, lo, st, he, nu, lf, rg, ou)) := by
  obtain ⟨⟨l1, l2, l3⟩, hmk, hP, hxx, H, h0, h1, h2⟩ := R
  obtain ⟨rfl, n1, hL⟩ := h1 (by decide)
  have RN := h2 rfl
  obtain ⟨r1, r2, hF⟩ := id RN
  obtain ⟨⟨f1, hi, hp⟩, f2, f3, f4, f5⟩ := hF f (by omega)
  have f2 := f2 rfl
  have n160 := hP.1.2.1
  have h8 : f < 8 := by omega
  have hhb := sm_PH hP (show fa f ≤ nt by omega)
  have hh8 : hh (fa f) ≤ 8 := hhb.1
  have hf8 : fh f ≤ 8 := by omega
  have hxh := (hxx _ hi).1
  obtain ⟨a1, a2, a3, a4, a5, a6, a7⟩ := sm_PA hP hi
  obtain ⟨b1, b2, b3, b4, b5, b6⟩ := sm_PB hP hi
  have hvs := (sm_PQ hP f1).2.2.1
  obtain ⟨⟨p1, p2, p3, p4, psb⟩, q1, q2, q3⟩ := id H
  have hK : tk (fa f) % 100 = 24 := by
    obtain ⟨e1, e2⟩ := sm_xoe hP hi
    by_cases q : tk (fa f) % 100 = 24
    · exact q
    · have := e1 q; omega
  have hpop := sm_pop24 (pm := pm) hK
  have hle : sm_pop pm (tk (fa f)) ≤ fh f := by omega
  have n8 := hP.1.1
  have hs : sm_s1 xo xj (fa f) = none := if_pos (by omega)
  obtain ⟨va, ea⟩ : ∃ va : Int32, va = 0 := ⟨_, rfl⟩
  obtain ⟨vb, eb⟩ : ∃ vb : Int32, vb = 0 := ⟨_, rfl⟩
  have vk : sm_VK us sb cb (gl (fp f)) va vb := by rw [ea, eb]; exact ⟨fun _ => rfl, fun _ => Or.inl ⟨rfl, rfl⟩⟩
  have HH := H
  by_cases c : f = 0
  · subst c
    refine sm_OUTi (xle := xle) (xpe := xpe) (sta := 3) (opn := 0) (xch := xch) (xck := xck) (xbc := xbc) (xcb := xcb) (xcc := xcc) (col := col) (res := vb) (cp := cp) (lm := lm) (np := np) (nt := nt) (fr := 0) (sb := sb) (us := us) (bo := bo) (oc := oc) (pm := pm) (vs := vs) (mk := mk) (fi := fi) (tk := tk) (xo := xo) (xj := xj) (ow := ow) (xh := xh) (xk := xk) (xl := xl) (fp := fp) (fa := fa) (fh := fh) (cb := cb) (gl := gl) (xbk := xbk) (xbp := xbp) (xbh := xbh) (sl := sl) (cn := cn) (cl := cl) (cr := cr) (fw := fw) (ou := ou) (lo := lo) (st := st) (he := he) (nu := nu) (lf := lf) (rg := rg) (hh := hh) (kk := kk) (dp := dp) (pt := pt) (hd := hd) ?_ (fun post hp => sm_xs27 h8 hi n160 hxh hh8 hx (fun Q eQ => by subst ea; exact sm_xl0 (by omega) (by omega) n8 f1 vk (eQ _ hp))) (fun post hp2 yh yd yt yb ys yr => ?_)
    · exact ⟨⟨l1, l2, l3⟩, hmk, hP, hxx, H, fun z => absurd z (by decide), fun _ => ⟨rfl, n1, hL⟩, fun z => absurd z (by decide)⟩
    · refine sm_y128 hP h8 hi hf8 (fun x8 e8 => ?_)
      rw [if_neg (show ¬ ((tk (fa 0) % 100 = 20 ∨ tk (fa 0) % 100 = 23) ∧ _) from fun z => absurd z.1 (by omega)), hs] at e8
      subst e8
      rw [hK]
      exact br_f (by decide) (br_t (by decide) (br_f (by decide) (br_t (by decide) (br_f (by decide) (br_f (by decide) (br_f (by decide) (br_f (by decide) (sm_yl0 (by subst eb; exact hp2 yh yd yt yb ys yr)))))))))
  · obtain ⟨g, rfl⟩ : ∃ g, f = g + 1 := ⟨f - 1, by omega⟩
    obtain ⟨RN', c1, c2, c3, c4, c5⟩ := sm_rnRet (a := va) (b := vb) hP hL RN vk
    have hig := (hF g (by omega)).1.2.1
    have hhg := sm_PH hP (show fa g ≤ nt by omega)
    refine sm_OUTi (xle := xle) (xpe := xpe) (sta := 2) (opn := 0) (xch := xch) (xck := xck) (xbc := xbc) (xcb := xcb) (xcc := xcc) (col := col) (res := res) (cp := cp) (lm := lm) (np := np) (nt := nt) (fr := g + 1) (sb := sb) (us := us) (bo := bo) (oc := oc) (pm := pm) (vs := vs) (mk := mk) (fi := fi) (tk := tk) (xo := xo) (xj := xj) (ow := ow) (xh := xh) (xk := xk) (xl := xl) (fp := fp) (fa := sm_u fa g (fa g + 1)) (fh := sm_u fh g (fh g + 1)) (cb := cb) (gl := gl) (xbk := xbk) (xbp := xbp) (xbh := xbh) (sl := upd sl (g * 16 + 8 + fh g) va) (cn := cn) (cl := cl) (cr := cr) (fw := fw) (ou := ou) (lo := lo) (st := upd st (g * 8 + fh g) vb) (he := he) (nu := nu) (lf := lf) (rg := rg) (hh := hh) (kk := kk) (dp := dp) (pt := pt) (hd := hd) ?_ (fun post hp => sm_xs27 h8 hi n160 hxh hh8 hx (fun Q eQ => by subst ea; exact sm_xl1 (by omega) n160 n8 f1 hig c2 (hxx _ hig).1 hhg.1 c3 c4 (eQ _ hp))) (fun post hp2 yh yd yt yb ys yr => ?_)
    · exact ⟨⟨l1, l2, l3⟩, hmk, hP, hxx, HH, fun z => absurd z (by decide), fun _ => ⟨rfl, n1, hL⟩, fun _ => RN'⟩
    · refine sm_y128 hP h8 hi hf8 (fun x8 e8 => ?_)
      rw [if_neg (show ¬ ((tk (fa (g + 1)) % 100 = 20 ∨ tk (fa (g + 1)) % 100 = 23) ∧ _) from fun z => absurd z.1 (by omega)), hs] at e8
      subst e8
      rw [hK]
      exact br_f (by decide) (br_t (by decide) (br_f (by decide) (br_t (by decide) (br_f (by decide) (br_f (by decide) (br_f (by decide) (br_f (by decide) (sm_yl1 (by omega) c4 (by subst eb; exact hp2 yh yd yt yb ys yr)))))))))
end
end
section
/-! both sides step together (printed by mk33.py) -/
section
variable {xle xpe sta opn xch xck xbc xcb xcc col res yh yd : Int32} {cp lm np nt fr sb us bo oc : Nat} {pm vs mk fi tk xo xj ow xh xk xl fp fa fh cb : Nat → Nat} {gl : Nat → Bool} {xbk xbp xbh sl cn cl cr fw ou yt yb ys yr lo st he nu lf rg : Nat → Int32} {hh kk dp : Nat → Nat} {pt hd : Nat → Nat → Nat}
variable {f : Nat}
theorem sm_xs9 {h : Nat} {post : SX → Prop} (h8 : f < 8) (hi : fa f < nt) (n160 : nt ≤ 160) (hxh : xh (fa f) = h) (hh8 : h ≤ 8) (hx : xo (fa f) = 9) (hp : ∀ Q : SX → Prop, (∀ u, post u → Q u) → wpX_stepNew Q (xle, xpe, nI cp, nI lm, sta, nI np, opn, nI nt, xch, xck, xbc, nI (f + 1), nI sb, nI us, xcb, xcc, col, nI bo, nI oc, res, sm_n pm, sm_n vs, sm_n mk, sm_k gl, sm_n fi, sm_n tk, sm_n xo, sm_n (sm_ar tk), sm_n xj, sm_n ow, sm_n xh, sm_n xk, sm_n xl, xbk, xbp, xbh, sm_n fp, sm_n fa, sl, cn, cl, cr, sm_n cb, fw, ou) (nI f) (nI (fa f)) (nI (f * 16 + 8 + h))) : wpX_step post (xle, xpe, nI cp, nI lm, sta, nI np, opn, nI nt, xch, xck, xbc, nI (f + 1), nI sb, nI us, xcb, xcc, col, nI bo, nI oc, res, sm_n pm, sm_n vs, sm_n mk, sm_k gl, sm_n fi, sm_n tk, sm_n xo, sm_n (sm_ar tk), sm_n xj, sm_n ow, sm_n xh, sm_n xk, sm_n xl, xbk, xbp, xbh, sm_n fp, sm_n fa, sl, cn, cl, cr, sm_n cb, fw, ou) := by
  have v8 : vp_in (nI f) 8 := vp_in_nI h8 (by decide)
  have c8 : (nI f).toNatClampNeg = f := nI_clamp (by omega)
  have vi : vp_in (nI (fa f)) 160 := vp_in_nI (by omega) (by decide)
  have ci : (nI (fa f)).toNatClampNeg = fa f := nI_clamp (by omega)
  have eo : sm_n xo (nI (fa f)).toNatClampNeg = nI 9 := by rw [ci, sm_nap, hx]
  have eA : nI f * 16 + sm_n (sm_ar tk) (nI (fa f)).toNatClampNeg = nI (f * 16 + tk (fa f) / 100) := by rw [ci, sm_nap, sm_arap, sm_mu16, nI_add]
  have vT : h < 8 → vp_in (nI (f * 16 + 8 + h)) 128 := fun z => vp_in_nI (by omega) (by decide)
  have cT : (nI (f * 16 + 8 + h)).toNatClampNeg = f * 16 + 8 + h := nI_clamp (by omega)
  have hp := hp (fun u => match u with | (a0, a1, a2, a3, a4, a5, a6, a7, a8, a9, a10, a11, a12, a13, a14, a15, a16, a17, a18, a19, a20, a21, a22, a23, a24, a25, a26, a27, a28, a29, a30, a31, a32, a33, a34, a35, a36, a37, a38, a39, a40, a41, a42, a43, a44) => post (a0, a1, a2, a3, a4, a5, a6, a7, a8, a9, a10, a11, a12, a13, a14, a15, a16, a17, a18, a19, a20, a21, a22, a23, a24, a25, a26, a27, a28, a29, a30, a31, a32, a33, a34, a35, a36, a37, a38, a39, a40, a41, a42, a43, a44)) (fun u hu => by
    obtain ⟨a0, a1, a2, a3, a4, a5, a6, a7, a8, a9, a10, a11, a12, a13, a14, a15, a16, a17, a18, a19, a20, a21, a22, a23, a24, a25, a26, a27, a28, a29, a30, a31, a32, a33, a34, a35, a36, a37, a38, a39, a40, a41, a42, a43, a44⟩ := u
    exact hu)
  exact nm_r (e' := nI f) (nI_pred f) (br_t (nI_pos' (by omega)) (And.intro v8 (nm_r (e' := nI (fa f)) (by rw [c8, sm_nap]) (And.intro vi (nm_r (e' := nI 9) eo (And.intro vi (nm_r (e' := nI (f * 16 + 8 + h)) (by rw [ci, sm_nap, hxh, sm_mu16, sm_ad8, nI_add]) (br_t (by decide) (br_t (by decide) (br_t (by decide) (hp)))))))))))
theorem sm_x31a {h : Nat} {Q : SX → Prop} (h8 : f < 8) (hh8 : h ≤ 8) (hh3 : 3 ≤ h) (hc : cp ≤ 16) (hus : us < cp) (hsb : sb ≤ 16) (hp : Q (xle, xpe, nI cp, nI lm, sta, nI np, opn, nI nt, xch, xck, xbc, nI (f + 1), nI sb, nI (us + 1), xcb, xcc, col, nI (bo + 1), nI oc, res, sm_n pm, sm_n vs, sm_n mk, sm_k gl, sm_n fi, sm_n tk, sm_n xo, sm_n (sm_ar tk), sm_n xj, sm_n ow, sm_n xh, sm_n xk, sm_n xl, xbk, xbp, xbh, sm_n fp, sm_n (sm_u fa f (fa f + 1)), upd sl (f * 16 + 8 + (h - 3)) (nI (sb + 1 + us)), upd cn (sb + 1 + us) (sl (f * 16 + 8 + (h - 3))), upd cl (sb + 1 + us) (sl (f * 16 + 8 + (h - 2))), upd cr (sb + 1 + us) (sl (f * 16 + 8 + (h - 1))), sm_n (sm_u cb (sb + 1 + us) (bo + 1)), fw, ou)) : wX_stepNew_31 Q (nI f) (nI (fa f)) (nI (f * 16 + 8 + h)) xle xpe (nI cp) (nI lm) sta (nI np) opn (nI nt) xch xck xbc (nI (f + 1)) (nI sb) (nI us) xcb xcc col (nI bo) (nI oc) res (sm_n pm) (sm_n vs) (sm_n mk) (sm_k gl) (sm_n fi) (sm_n tk) (sm_n xo) (sm_n (sm_ar tk)) (sm_n xj) (sm_n ow) (sm_n xh) (sm_n xk) (sm_n xl) xbk xbp xbh (sm_n fp) (sm_n fa) sl cn cl cr (sm_n cb) fw ou := by
  have v8 : vp_in (nI f) 8 := vp_in_nI h8 (by decide)
  have c8 : (nI f).toNatClampNeg = f := nI_clamp (by omega)
  have ea : nI sb + nI (us + 1) = nI (sb + 1 + us) := by rw [nI_add]; congr 1; omega
  have va : vp_in (nI (sb + 1 + us)) 33 := vp_in_nI (by omega) (by decide)
  have ca : (nI (sb + 1 + us)).toNatClampNeg = sb + 1 + us := nI_clamp (by omega)
  have eT1 : nI (f * 16 + 8 + h) - 1 = nI (f * 16 + 8 + (h - 1)) := by rw [sm_sb1 (by omega)]; congr 1; omega
  have vT1 : vp_in (nI (f * 16 + 8 + h) - 1) 128 := by rw [eT1]; exact vp_in_nI (by omega) (by decide)
  have cT1 : (nI (f * 16 + 8 + h) - 1).toNatClampNeg = f * 16 + 8 + (h - 1) := by rw [eT1]; exact nI_clamp (by omega)
  have eT2 : nI (f * 16 + 8 + h) - 2 = nI (f * 16 + 8 + (h - 2)) := by rw [sm_sb2 (by omega)]; congr 1; omega
  have vT2 : vp_in (nI (f * 16 + 8 + h) - 2) 128 := by rw [eT2]; exact vp_in_nI (by omega) (by decide)
  have cT2 : (nI (f * 16 + 8 + h) - 2).toNatClampNeg = f * 16 + 8 + (h - 2) := by rw [eT2]; exact nI_clamp (by omega)
  have eT3 : nI (f * 16 + 8 + h) - 3 = nI (f * 16 + 8 + (h - 3)) := by rw [sm_sb3 (by omega)]; congr 1; omega
  have vT3 : vp_in (nI (f * 16 + 8 + h) - 3) 128 := by rw [eT3]; exact vp_in_nI (by omega) (by decide)
  have cT3 : (nI (f * 16 + 8 + h) - 3).toNatClampNeg = f * 16 + 8 + (h - 3) := by rw [eT3]; exact nI_clamp (by omega)
  exact br_t (nI_lt hus (by omega)) (nm_r (nI_1 us) (nm_r (nI_1 bo) (nm_r ea (And.intro vT3 (And.intro va (nm_r (e' := upd cn (sb + 1 + us) (sl (f * 16 + 8 + (h - 3)))) (by rw [ca, cT3]) (And.intro vT2 (And.intro va (nm_r (e' := upd cl (sb + 1 + us) (sl (f * 16 + 8 + (h - 2)))) (by rw [ca, cT2]) (And.intro vT1 (And.intro va (nm_r (e' := upd cr (sb + 1 + us) (sl (f * 16 + 8 + (h - 1)))) (by rw [ca, cT1]) (And.intro va (nm_r (e' := sm_n (sm_u cb (sb + 1 + us) (bo + 1))) (by rw [ca, sm_nu]) (And.intro vT3 (nm_r (e' := upd sl (f * 16 + 8 + (h - 3)) (nI (sb + 1 + us))) (by rw [cT3]) (And.intro v8 (nm_r (e' := sm_n (sm_u fa f (fa f + 1))) (by rw [c8, nI_1, sm_nu]) hp))))))))))))))))))
theorem sm_x31b {h : Nat} {Q : SX → Prop} (hc : cp ≤ 16) (hus : us = cp) (hp : Q (xle, xpe, nI cp, nI lm, 5, nI np, opn, nI nt, xch, xck, xbc, nI (f + 1), nI sb, nI us, xcb, xcc, col, nI bo, nI oc, res, sm_n pm, sm_n vs, sm_n mk, sm_k gl, sm_n fi, sm_n tk, sm_n xo, sm_n (sm_ar tk), sm_n xj, sm_n ow, sm_n xh, sm_n xk, sm_n xl, xbk, xbp, xbh, sm_n fp, sm_n fa, sl, cn, cl, cr, sm_n cb, fw, ou)) : wX_stepNew_31 Q (nI f) (nI (fa f)) (nI (f * 16 + 8 + h)) xle xpe (nI cp) (nI lm) sta (nI np) opn (nI nt) xch xck xbc (nI (f + 1)) (nI sb) (nI us) xcb xcc col (nI bo) (nI oc) res (sm_n pm) (sm_n vs) (sm_n mk) (sm_k gl) (sm_n fi) (sm_n tk) (sm_n xo) (sm_n (sm_ar tk)) (sm_n xj) (sm_n ow) (sm_n xh) (sm_n xk) (sm_n xl) xbk xbp xbh (sm_n fp) (sm_n fa) sl cn cl cr (sm_n cb) fw ou :=
  br_f (nI_nlt (by omega) (by omega)) hp
/-- a new cell -/
theorem sm_alH {v1 v2 v3 w1 w2 w3 : Int32} (H : sm_HP cp us sb bo cb cn cl cr he nu lf rg) (hus : us < cp) (hbo : bo < 120) (e1 : w1 = v1) (e2 : sm_VR us sb cb v2 w2) (e3 : sm_VR us sb cb v3 w3) :
    sm_HP cp (us + 1) sb (bo + 1) (sm_u cb (sb + 1 + us) (bo + 1)) (upd cn (sb + 1 + us) v1) (upd cl (sb + 1 + us) v2) (upd cr (sb + 1 + us) v3) (upd he (bo + 1) 1) (upd nu (bo + 1) w1) (upd lf (bo + 1) w2) (upd rg (bo + 1) w3) ∧ sm_Vm us sb cb (us + 1) sb (sm_u cb (sb + 1 + us) (bo + 1)) := by
  obtain ⟨⟨p1, p2, p3, p4, psb⟩, q1, q2, q3⟩ := H
  have hm : sm_Vm us sb cb (us + 1) sb (sm_u cb (sb + 1 + us) (bo + 1)) := by
    intro a b h
    rcases h with h | ⟨c, c1, c2, c3⟩
    · exact Or.inl h
    · exact Or.inr ⟨c, by omega, c2, by rw [sm_un (by omega)]; exact c3⟩
  refine ⟨⟨⟨p1, p2, by omega, by omega, psb⟩, fun c hc => ?_, fun c d hc hd e => ?_, fun b b1 b2 hb => ?_⟩, hm⟩
  · by_cases ec : c = us
    · subst ec
      unfold sm_HC
      rw [sm_us, pk_us, pk_us, pk_us, pk_us, pk_us, pk_us, pk_us]
      exact ⟨by omega, by omega, by decide, e1, hm _ _ e2, hm _ _ e3⟩
    · obtain ⟨a1, a2, a3, a4, a5, a6⟩ := q1 c (by omega)
      unfold sm_HC
      rw [sm_un (by omega), pk_un (by omega), pk_un (by omega), pk_un (by omega), pk_un (by omega), pk_un (by omega), pk_un (by omega), pk_un (by omega)]
      exact ⟨a1, by omega, a3, a4, hm _ _ a5, hm _ _ a6⟩
  · by_cases ec : c = us
    · subst ec
      by_cases ed : d = c
      · omega
      · rw [sm_us, sm_un (by omega)] at e
        have := (q1 d (by omega)).2.1
        omega
    · by_cases ed : d = us
      · subst ed
        rw [sm_us, sm_un (by omega)] at e
        have := (q1 c (by omega)).2.1
        omega
      · rw [sm_un (by omega), sm_un (by omega)] at e
        exact q2 c d (by omega) (by omega) e
  · by_cases eb : b = bo + 1
    · exact ⟨us, by omega, by rw [sm_us]; exact eb.symm⟩
    · rw [pk_un eb] at hb
      obtain ⟨c, c1, c2⟩ := q3 b b1 (by omega) hb
      exact ⟨c, by omega, by rw [sm_un (by omega)]; exact c2⟩
/-- the reference looks for room -/
theorem sm_yr33a {post : Int32 → SY → Prop} (H : sm_HP cp us sb bo cb cn cl cr he nu lf rg) (hus : us < cp) (h : post 1 (nI cp, nI lm, 2, nI np, opn, nI nt, yh, yd, nI fr, nI bo, col, nI oc, res, sm_n tk, sm_n fi, sm_n pm, sm_n vs, sm_n mk, sm_k gl, yt, yb, ys, yr, sm_n fp, sm_n fa, sm_n fh, lo, st, he, nu, lf, rg, ou)) : wY_room_33 post (nI cp) (nI lm) 2 (nI np) opn (nI nt) yh yd (nI fr) (nI bo) col (nI oc) res (sm_n tk) (sm_n fi) (sm_n pm) (sm_n vs) (sm_n mk) (sm_k gl) yt yb ys yr (sm_n fp) (sm_n fa) (sm_n fh) lo st he nu lf rg ou := by
  have hc := H.1.2.1
  unfold wY_room_33
  exact sm_yus H (pk_eq us cp (fun z => absurd z (by omega)) (fun _ => br_t rfl h))
theorem sm_yr33b {post : Int32 → SY → Prop} (H : sm_HP cp us sb bo cb cn cl cr he nu lf rg) (hus : us = cp) (h : post 0 (nI cp, nI lm, 5, nI np, opn, nI nt, yh, yd, nI fr, nI bo, col, nI oc, res, sm_n tk, sm_n fi, sm_n pm, sm_n vs, sm_n mk, sm_k gl, yt, yb, ys, yr, sm_n fp, sm_n fa, sm_n fh, lo, st, he, nu, lf, rg, ou)) : wY_room_33 post (nI cp) (nI lm) 2 (nI np) opn (nI nt) yh yd (nI fr) (nI bo) col (nI oc) res (sm_n tk) (sm_n fi) (sm_n pm) (sm_n vs) (sm_n mk) (sm_k gl) yt yb ys yr (sm_n fp) (sm_n fa) (sm_n fh) lo st he nu lf rg ou := by
  have hc := H.1.2.1
  unfold wY_room_33
  exact sm_yus H (pk_eq us cp (fun _ => br_f (by decide) h) (fun z => absurd hus z))
theorem sm_yra {post : Int32 → SY → Prop} (H : sm_HP cp us sb bo cb cn cl cr he nu lf rg) (hb : bo < 120) (hus : us < cp) (h : post 1 (nI cp, nI lm, 2, nI np, opn, nI nt, yh, yd, nI fr, nI bo, col, nI oc, res, sm_n tk, sm_n fi, sm_n pm, sm_n vs, sm_n mk, sm_k gl, yt, yb, ys, yr, sm_n fp, sm_n fa, sm_n fh, lo, st, he, nu, lf, rg, ou)) : wpY_room post (nI cp, nI lm, 2, nI np, opn, nI nt, yh, yd, nI fr, nI bo, col, nI oc, res, sm_n tk, sm_n fi, sm_n pm, sm_n vs, sm_n mk, sm_k gl, yt, yb, ys, yr, sm_n fp, sm_n fa, sm_n fh, lo, st, he, nu, lf, rg, ou) := by
  have hc := H.1.2.1
  exact pk_eq bo 120 (fun z => absurd z (by omega)) (fun _ => sm_yus H (pk_eq us cp (fun z => absurd z (by omega)) (fun _ => sm_yr33a H hus h)))
theorem sm_yrb {post : Int32 → SY → Prop} (H : sm_HP cp us sb bo cb cn cl cr he nu lf rg) (hb : bo < 120) (hus : us = cp) (h : wpY_gather (fun _ u => match u with | (b1, b2, b3, b4, opn, b5, yh, yd, b6, b7, col, b8, res, c1, c2, c3, c4, c5, c6, yt, yb, ys, yr, c7, c8, c9, lo, st, he, nu, lf, rg, ou) => wY_room_33 post b1 b2 b3 b4 opn b5 yh yd b6 b7 col b8 res c1 c2 c3 c4 c5 c6 yt yb ys yr c7 c8 c9 lo st he nu lf rg ou) (nI cp, nI lm, 2, nI np, opn, nI nt, yh, yd, nI fr, nI bo, col, nI oc, res, sm_n tk, sm_n fi, sm_n pm, sm_n vs, sm_n mk, sm_k gl, yt, yb, ys, yr, sm_n fp, sm_n fa, sm_n fh, lo, st, he, nu, lf, rg, ou)) : wpY_room post (nI cp, nI lm, 2, nI np, opn, nI nt, yh, yd, nI fr, nI bo, col, nI oc, res, sm_n tk, sm_n fi, sm_n pm, sm_n vs, sm_n mk, sm_k gl, yt, yb, ys, yr, sm_n fp, sm_n fa, sm_n fh, lo, st, he, nu, lf, rg, ou) := by
  have hc := H.1.2.1
  exact pk_eq bo 120 (fun z => absurd z (by omega)) (fun _ => sm_yus H (pk_eq us cp (fun _ => h) (fun z => absurd hus z)))
theorem sm_st9 (R : sm_REL 2 opn xch xck xbc cp lm np nt (f + 1) sb us bo oc pm vs mk fi tk xo xj ow xh xk xl fp fa fh cb gl xbk xbp xbh sl cn cl cr lo st he nu lf rg hh kk dp pt hd) (hx : xo (fa f) = 9) : sm_OUT (fun post => wpX_step post (xle, xpe, nI cp, nI lm, 2, nI np, opn, nI nt, xch, xck, xbc, nI (f + 1), nI sb, nI us, xcb, xcc, col, nI bo, nI oc, res, sm_n pm, sm_n vs, sm_n mk, sm_k gl, sm_n fi, sm_n tk, sm_n xo, sm_n (sm_ar tk), sm_n xj, sm_n ow, sm_n xh, sm_n xk, sm_n xl, xbk, xbp, xbh, sm_n fp, sm_n fa, sl, cn, cl, cr, sm_n cb, fw, ou)) (fun post => ∀ (yh yd : Int32) (yt yb ys yr : Nat → Int32), wpY_step post (nI cp, nI lm, 2, nI np, opn, nI nt, yh, yd, nI (f + 1), nI bo, col, nI oc, res, sm_n tk, sm_n fi, sm_n pm, sm_n vs, sm_n mk, sm_k gl, yt, yb, ys, yr, sm_n fp, sm_n fa, sm_n fh, lo, st, he, nu, lf, rg, ou)) := by
  obtain ⟨⟨l1, l2, l3⟩, hmk, hP, hxx, H, h0, h1, h2⟩ := R
  obtain ⟨rfl, n1, hL⟩ := h1 (by decide)
  have RN := h2 rfl
  obtain ⟨r1, r2, hF⟩ := id RN
  obtain ⟨⟨f1, hi, hp⟩, f2, f3, f4, f5⟩ := hF f (by omega)
  have f2 := f2 rfl
  have n160 := hP.1.2.1
  have h8 : f < 8 := by omega
  have hhb := sm_PH hP (show fa f ≤ nt by omega)
  have hh8 : hh (fa f) ≤ 8 := hhb.1
  have hf8 : fh f ≤ 8 := by omega
  have hxh := (hxx _ hi).1
  obtain ⟨a1, a2, a3, a4, a5, a6, a7⟩ := sm_PA hP hi
  obtain ⟨b1, b2, b3, b4, b5, b6⟩ := sm_PB hP hi
  have hvs := (sm_PQ hP f1).2.2.1
  obtain ⟨⟨p1, p2, p3, p4, psb⟩, q1, q2, q3⟩ := id H
  have hK : tk (fa f) % 100 = 9 := by
    obtain ⟨e1, e2⟩ := sm_xoe hP hi
    by_cases q : tk (fa f) % 100 = 24
    · rcases e2 q with z | z | z <;> omega
    · rw [← e1 q]; exact hx
  have hpop := sm_pop9 (pm := pm) hK
  have hle : sm_pop pm (tk (fa f)) ≤ fh f := by omega
  have hr : fh f - sm_pop pm (tk (fa f)) < 8 := by
    have hps : sm_ps (tk (fa f)) = 1 := if_pos (by omega)
    rw [b4] at b5
    unfold sm_h2 at b5
    omega
  have hs : sm_s1 xo xj (fa f) = some (fa f + 1) := by
    unfold sm_s1
    rw [if_neg (by omega), if_neg (by omega)]
  have hs2 := (sm_s1f hP hi hs).1
  have x6e : sm_x6 st f (fh f) = st (f * 8 + (hh (fa f) - 1)) := by
    unfold sm_x6
    rw [if_neg (by omega), f2]
  have x7e : sm_x7 st f (fh f) = st (f * 8 + (hh (fa f) - 2)) := by
    unfold sm_x7
    rw [if_neg (by omega), f2]
  have n8 := hP.1.1
  have hxl : ∀ i, i < nt → xl i < 256 := fun i hi => (hL i hi).1
  have tb := (sm_tyb a1 a2 hhb.2 b1 (by omega) (by omega)).mp b3
  rw [hpop, sm_wk9 hK] at tb
  have k0 := tb 0 (by omega)
  have k1 := tb 1 (by omega)
  have k2 := tb 2 (by omega)
  rw [show hh (fa f) - 3 + 0 = hh (fa f) - 3 by omega] at k0
  rw [show hh (fa f) - 3 + 1 = hh (fa f) - 2 by omega] at k1
  rw [show hh (fa f) - 3 + 2 = hh (fa f) - 1 by omega] at k2
  have es : f * 16 + 8 + (hh (fa f) - 3) = f * 16 + 8 + (fh f - sm_pop pm (tk (fa f))) := by omega
  have es3 : f * 8 + fh f - 3 = f * 8 + (hh (fa f) - 3) := by omega
  by_cases cb120 : bo = 120
  · refine sm_OUTi (xle := xle) (xpe := xpe) (sta := 8) (opn := 0) (xch := xch) (xck := xck) (xbc := xbc) (xcb := xcb) (xcc := xcc) (col := col) (res := res) (cp := cp) (lm := lm) (np := np) (nt := nt) (fr := f + 1) (sb := sb) (us := us) (bo := bo) (oc := oc) (pm := pm) (vs := vs) (mk := mk) (fi := fi) (tk := tk) (xo := xo) (xj := xj) (ow := ow) (xh := xh) (xk := xk) (xl := xl) (fp := fp) (fa := fa) (fh := fh) (cb := cb) (gl := gl) (xbk := xbk) (xbp := xbp) (xbh := xbh) (sl := sl) (cn := cn) (cl := cl) (cr := cr) (fw := fw) (ou := ou) (lo := lo) (st := st) (he := he) (nu := nu) (lf := lf) (rg := rg) (hh := hh) (kk := kk) (dp := dp) (pt := pt) (hd := hd) ?_ (fun post hp => sm_xs9 h8 hi n160 hxh hh8 hx (fun Q eQ => br_f (nI_nlt (b := 120) (by omega) (by omega)) (eQ _ hp))) (fun post hp2 yh yd yt yb ys yr => ?_)
    · exact ⟨⟨l1, l2, l3⟩, hmk, hP, hxx, H, fun z => absurd z (by decide), fun _ => ⟨rfl, n1, hL⟩, fun z => absurd z (by decide)⟩
    · refine sm_y128 hP h8 hi hf8 (fun x8 e8 => ?_)
      rw [if_neg (show ¬ ((tk (fa f) % 100 = 20 ∨ tk (fa f) % 100 = 23) ∧ _) from fun z => absurd z.1 (by omega)), hs] at e8
      subst e8
      rw [hK]
      refine br_t (by decide) (br_t (by decide) (br_f (by decide) (br_f (by decide) (br_t (nI_pos' (by omega)) (br_t (by decide) ?_)))))
      exact br_t (by rw [cb120]; rfl) (br_t rfl (hp2 yh yd yt yb ys yr))
  have hb120 : bo < 120 := by omega
  have xb : nI bo < 120 := nI_lt (b := 120) hb120 (by decide)
  by_cases cfull : us < cp
  · have v0 := (f5 (hh (fa f) - 3) (by omega)).1 k0
    have v1 := (f5 (hh (fa f) - 2) (by omega)).2 k1
    have v2 := (f5 (hh (fa f) - 1) (by omega)).2 k2
    obtain ⟨HH, hm⟩ := sm_alH (v1 := sl (f * 16 + 8 + (hh (fa f) - 3))) (w1 := st (f * 8 + (hh (fa f) - 3))) H cfull hb120 v0.symm v1 v2
    have RN' := sm_rnPush (a := nI (sb + 1 + us)) (b := nI (bo + 1)) hP hL RN hm (Or.inl hs) (by omega) (by rw [sm_pk9 hK]; exact ⟨fun z => absurd z (by decide), fun _ => Or.inr ⟨us, by omega, rfl, by rw [sm_us]⟩⟩)
    rw [← f2] at RN'
    refine sm_OUTi (xle := xle) (xpe := xpe) (sta := 2) (opn := 0) (xch := xch) (xck := xck) (xbc := xbc) (xcb := xcb) (xcc := xcc) (col := col) (res := res) (cp := cp) (lm := lm) (np := np) (nt := nt) (fr := f + 1) (sb := sb) (us := us + 1) (bo := bo + 1) (oc := oc) (pm := pm) (vs := vs) (mk := mk) (fi := fi) (tk := tk) (xo := xo) (xj := xj) (ow := ow) (xh := xh) (xk := xk) (xl := xl) (fp := fp) (fa := sm_u fa f (fa f + 1)) (fh := sm_u fh f (fh f - sm_pop pm (tk (fa f)) + 1)) (cb := sm_u cb (sb + 1 + us) (bo + 1)) (gl := gl) (xbk := xbk) (xbp := xbp) (xbh := xbh) (sl := upd sl (f * 16 + 8 + (fh f - sm_pop pm (tk (fa f)))) (nI (sb + 1 + us))) (cn := upd cn (sb + 1 + us) (sl (f * 16 + 8 + (hh (fa f) - 3)))) (cl := upd cl (sb + 1 + us) (sl (f * 16 + 8 + (hh (fa f) - 2)))) (cr := upd cr (sb + 1 + us) (sl (f * 16 + 8 + (hh (fa f) - 1)))) (fw := fw) (ou := ou) (lo := lo) (st := upd st (f * 8 + (fh f - sm_pop pm (tk (fa f)))) (nI (bo + 1))) (he := upd he (bo + 1) 1) (nu := upd nu (bo + 1) (st (f * 8 + (hh (fa f) - 3)))) (lf := upd lf (bo + 1) (st (f * 8 + (hh (fa f) - 2)))) (rg := upd rg (bo + 1) (st (f * 8 + (hh (fa f) - 1)))) (hh := hh) (kk := kk) (dp := dp) (pt := pt) (hd := hd) ?_ (fun post hp => sm_xs9 h8 hi n160 hxh hh8 hx (fun Q eQ => br_t xb (br_t (nI_lt cfull (by omega)) (sm_x31a h8 hh8 (by omega) p2 cfull (by omega) (eQ _ (by rw [← es] at hp; exact hp)))))) (fun post hp2 yh yd yt yb ys yr => ?_)
    · exact ⟨⟨l1, l2, l3⟩, hmk, hP, hxx, HH, fun z => absurd z (by decide), fun _ => ⟨rfl, n1, hL⟩, fun _ => RN'⟩
    · refine sm_y128 hP h8 hi hf8 (fun x8 e8 => ?_)
      rw [if_neg (show ¬ ((tk (fa f) % 100 = 20 ∨ tk (fa f) % 100 = 23) ∧ _) from fun z => absurd z.1 (by omega)), hs] at e8
      subst e8
      rw [hK]
      refine br_t (by decide) (br_t (by decide) (br_f (by decide) (br_f (by decide) (br_t (nI_pos' (by omega)) (br_t (by decide) ?_)))))
      exact sm_yra H hb120 cfull (br_f sm_10 (sm_yc9 (by omega) (by omega) hb120 (by rw [x6e, x7e, es3]; exact sm_y549a hP h8 hi hf8 hp hle (by omega) hr (hp2 yh yd yt yb ys yr))))
  have hfull : us = cp := by omega
  have xf : ¬ nI us < nI cp := nI_nlt (by omega) (by omega)
  obtain ⟨cc, src, cb', fw', cn', cl', cr', sl', G, WX⟩ := sm_xgc (xle := xle) (xpe := xpe) (lm := lm) (sta := 2) (opn := 0) (xch := xch) (xck := xck) (xbc := xbc) (xcb := xcb) (xcc := xcc) (col := col) (oc := oc) (res := res) (xbk := xbk) (xbp := xbp) (xbh := xbh) (fw := fw) (ou := ou) hP hxx hxl (show f + 1 ≤ 8 by omega) H hF
  obtain ⟨HG, hcc, hcu⟩ := sm_gcB H G
  have RG : sm_RN np nt (f + 1) cc (16 - sb) lm pm vs mk tk ow hh kk xl fp fa fh cb' sl' lo st := ⟨r1, r2, fun g hg => sm_gcF (by omega) (by omega) hP G hg (hF g hg)⟩
  have g5 := (RG.2.2 f (by omega)).2.2.2.2
  by_cases c2full : cc < cp
  · have v0 := (g5 (hh (fa f) - 3) (by omega)).1 k0
    have v1 := (g5 (hh (fa f) - 2) (by omega)).2 k1
    have v2 := (g5 (hh (fa f) - 1) (by omega)).2 k2
    obtain ⟨HH, hm⟩ := sm_alH (v1 := sl' (f * 16 + 8 + (hh (fa f) - 3))) (w1 := st (f * 8 + (hh (fa f) - 3))) HG c2full hb120 v0.symm v1 v2
    have RN' := sm_rnPush (a := nI (16 - sb + 1 + cc)) (b := nI (bo + 1)) hP hL RG hm (Or.inl hs) (by omega) (by rw [sm_pk9 hK]; exact ⟨fun z => absurd z (by decide), fun _ => Or.inr ⟨cc, by omega, rfl, by rw [sm_us]⟩⟩)
    rw [← f2] at RN'
    refine sm_OUTi (xle := xle) (xpe := xpe) (sta := 2) (opn := 0) (xch := xch) (xck := xck) (xbc := xbc) (xcb := nI (16 - sb)) (xcc := nI cc) (col := col + 1) (res := res) (cp := cp) (lm := lm) (np := np) (nt := nt) (fr := f + 1) (sb := 16 - sb) (us := cc + 1) (bo := bo + 1) (oc := oc) (pm := pm) (vs := vs) (mk := mk) (fi := fi) (tk := tk) (xo := xo) (xj := xj) (ow := ow) (xh := xh) (xk := xk) (xl := xl) (fp := fp) (fa := sm_u fa f (fa f + 1)) (fh := sm_u fh f (fh f - sm_pop pm (tk (fa f)) + 1)) (cb := sm_u cb' (16 - sb + 1 + cc) (bo + 1)) (gl := gl) (xbk := xbk) (xbp := xbp) (xbh := xbh) (sl := upd sl' (f * 16 + 8 + (fh f - sm_pop pm (tk (fa f)))) (nI (16 - sb + 1 + cc))) (cn := upd cn' (16 - sb + 1 + cc) (sl' (f * 16 + 8 + (hh (fa f) - 3)))) (cl := upd cl' (16 - sb + 1 + cc) (sl' (f * 16 + 8 + (hh (fa f) - 2)))) (cr := upd cr' (16 - sb + 1 + cc) (sl' (f * 16 + 8 + (hh (fa f) - 1)))) (fw := fw') (ou := ou) (lo := lo) (st := upd st (f * 8 + (fh f - sm_pop pm (tk (fa f)))) (nI (bo + 1))) (he := upd (sm_hq (sm_Q (sm_RX (f + 1) us sb mk kk xl fp fa fh sl cl cr) us sb cb) bo he) (bo + 1) 1) (nu := upd nu (bo + 1) (st (f * 8 + (hh (fa f) - 3)))) (lf := upd lf (bo + 1) (st (f * 8 + (hh (fa f) - 2)))) (rg := upd rg (bo + 1) (st (f * 8 + (hh (fa f) - 1)))) (hh := hh) (kk := kk) (dp := dp) (pt := pt) (hd := hd) ?_ (fun post hp => sm_xs9 h8 hi n160 hxh hh8 hx (fun Q eQ => br_t xb (br_f xf (WX _ (sm_x31a h8 hh8 (by omega) p2 c2full (by omega) (eQ _ (by rw [← es] at hp; exact hp))))))) (fun post hp2 yh yd yt yb ys yr => ?_)
    · exact ⟨⟨l1, l2, l3⟩, hmk, hP, hxx, HH, fun z => absurd z (by decide), fun _ => ⟨rfl, n1, hL⟩, fun _ => RN'⟩
    · refine sm_y128 hP h8 hi hf8 (fun x8 e8 => ?_)
      rw [if_neg (show ¬ ((tk (fa f) % 100 = 20 ∨ tk (fa f) % 100 = 23) ∧ _) from fun z => absurd z.1 (by omega)), hs] at e8
      subst e8
      rw [hK]
      refine br_t (by decide) (br_t (by decide) (br_f (by decide) (br_f (by decide) (br_t (nI_pos' (by omega)) (br_t (by decide) ?_)))))
      exact sm_yrb H hb120 hfull (sm_ygat hP hL hmk (by omega) H hF (fun yh yd yt yb ys yr => sm_yr33a HG c2full (br_f sm_10 (sm_yc9 (by omega) (by omega) hb120 (by rw [x6e, x7e, es3]; exact sm_y549a hP h8 hi hf8 hp hle (by omega) hr (hp2 yh yd yt yb ys yr))))))
  · have hfull2 : cc = cp := by omega
    refine sm_OUTi (xle := xle) (xpe := xpe) (sta := 5) (opn := 0) (xch := xch) (xck := xck) (xbc := xbc) (xcb := nI (16 - sb)) (xcc := nI cc) (col := col + 1) (res := res) (cp := cp) (lm := lm) (np := np) (nt := nt) (fr := f + 1) (sb := 16 - sb) (us := cc) (bo := bo) (oc := oc) (pm := pm) (vs := vs) (mk := mk) (fi := fi) (tk := tk) (xo := xo) (xj := xj) (ow := ow) (xh := xh) (xk := xk) (xl := xl) (fp := fp) (fa := fa) (fh := fh) (cb := cb') (gl := gl) (xbk := xbk) (xbp := xbp) (xbh := xbh) (sl := sl') (cn := cn') (cl := cl') (cr := cr') (fw := fw') (ou := ou) (lo := lo) (st := st) (he := sm_hq (sm_Q (sm_RX (f + 1) us sb mk kk xl fp fa fh sl cl cr) us sb cb) bo he) (nu := nu) (lf := lf) (rg := rg) (hh := hh) (kk := kk) (dp := dp) (pt := pt) (hd := hd) ?_ (fun post hp => sm_xs9 h8 hi n160 hxh hh8 hx (fun Q eQ => br_t xb (br_f xf (WX _ (sm_x31b p2 hfull2 (eQ _ hp)))))) (fun post hp2 yh yd yt yb ys yr => ?_)
    · exact ⟨⟨l1, l2, l3⟩, hmk, hP, hxx, HG, fun z => absurd z (by decide), fun _ => ⟨rfl, n1, hL⟩, fun z => absurd z (by decide)⟩
    · refine sm_y128 hP h8 hi hf8 (fun x8 e8 => ?_)
      rw [if_neg (show ¬ ((tk (fa f) % 100 = 20 ∨ tk (fa f) % 100 = 23) ∧ _) from fun z => absurd z.1 (by omega)), hs] at e8
      subst e8
      rw [hK]
      refine br_t (by decide) (br_t (by decide) (br_f (by decide) (br_f (by decide) (br_t (nI_pos' (by omega)) (br_t (by decide) ?_)))))
      exact sm_yrb H hb120 hfull (sm_ygat hP hL hmk (by omega) H hF (fun yh yd yt yb ys yr => sm_yr33b HG hfull2 (br_t rfl (hp2 yh yd yt yb ys yr))))
end
end
section
/-! both sides step together (printed by mk34.py) -/
section
variable {xle xpe sta opn xch xck xbc xcb xcc col res yh yd : Int32} {cp lm np nt fr sb us bo oc : Nat} {pm vs mk fi tk xo xj ow xh xk xl fp fa fh cb : Nat → Nat} {gl : Nat → Bool} {xbk xbp xbh sl cn cl cr fw ou yt yb ys yr lo st he nu lf rg : Nat → Int32} {hh kk dp : Nat → Nat} {pt hd : Nat → Nat → Nat}
variable {f : Nat}
variable {p : Nat}
def sm_z (sl : Nat → Int32) (a n : Nat) : Nat → Int32 := fun j => if a ≤ j ∧ j < a + n then 0 else sl j
def sm_cq (l s : Nat → Int32) (d r n : Nat) : Nat → Int32 := fun j => if d ≤ j ∧ j < d + n then s (r + (j - d)) else l j
theorem sm_zs (sl : Nat → Int32) (a n : Nat) : upd (sm_z sl a n) (a + n) 0 = sm_z sl a (n + 1) := by
  funext j
  unfold sm_z
  by_cases e : j = a + n
  · rw [e, pk_us, if_pos (by omega)]
  · rw [pk_un e]
    by_cases c : a ≤ j ∧ j < a + n
    · rw [if_pos c, if_pos (by omega)]
    · rw [if_neg c, if_neg (by omega)]
theorem sm_z0 (sl : Nat → Int32) (a : Nat) : sm_z sl a 0 = sl := by
  funext j
  exact if_neg (by omega)
theorem sm_cqs (l s : Nat → Int32) (d r n : Nat) (x : Int32) (hx : x = s (r + n)) : upd (sm_cq l s d r n) (d + n) x = sm_cq l s d r (n + 1) := by
  funext j
  unfold sm_cq
  by_cases e : j = d + n
  · rw [e, pk_us, if_pos (by omega), hx]
    congr 1
    omega
  · rw [pk_un e]
    by_cases c : d ≤ j ∧ j < d + n
    · rw [if_pos c, if_pos (by omega)]
    · rw [if_neg c, if_neg (by omega)]
theorem sm_cq0 (l s : Nat → Int32) (d r : Nat) : sm_cq l s d r 0 = l := by
  funext j
  exact if_neg (by omega)
theorem sm_xof {post : SX → Prop} (h8 : fr < 8) (hp : p < 8) (h : post (xle, xpe, nI cp, nI lm, sta, nI np, opn, nI nt, xch, xck, xbc, nI (fr + 1), nI sb, nI us, xcb, xcc, col, nI bo, nI oc, res, sm_n pm, sm_n vs, sm_n mk, sm_k gl, sm_n fi, sm_n tk, sm_n xo, sm_n (sm_ar tk), sm_n xj, sm_n ow, sm_n xh, sm_n xk, sm_n xl, xbk, xbp, xbh, sm_n (sm_u fp fr p), sm_n (sm_u fa fr (fi p)), sm_z sl (fr * 16) 16, cn, cl, cr, sm_n cb, fw, ou)) : wpX_openFrame post (xle, xpe, nI cp, nI lm, sta, nI np, opn, nI nt, xch, xck, xbc, nI fr, nI sb, nI us, xcb, xcc, col, nI bo, nI oc, res, sm_n pm, sm_n vs, sm_n mk, sm_k gl, sm_n fi, sm_n tk, sm_n xo, sm_n (sm_ar tk), sm_n xj, sm_n ow, sm_n xh, sm_n xk, sm_n xl, xbk, xbp, xbh, sm_n fp, sm_n fa, sl, cn, cl, cr, sm_n cb, fw, ou) (nI p) := by
  have v8 : vp_in (nI fr) 8 := vp_in_nI h8 (by decide)
  have c8 : (nI fr).toNatClampNeg = fr := nI_clamp (by omega)
  have vp : vp_in (nI p) 8 := vp_in_nI hp (by decide)
  have cp1 : (nI p).toNatClampNeg = p := nI_clamp (by omega)
  have L : ∀ m s, s ≤ 16 → 16 - s < m → wX_openFrame_10 post (nI p) (nI (fr * 16)) xle xpe (nI cp) (nI lm) sta (nI np) opn (nI nt) xch xck xbc (nI fr) (nI sb) (nI us) xcb xcc col (nI bo) (nI oc) res m (nI s) (sm_n pm) (sm_n vs) (sm_n mk) (sm_k gl) (sm_n fi) (sm_n tk) (sm_n xo) (sm_n (sm_ar tk)) (sm_n xj) (sm_n ow) (sm_n xh) (sm_n xk) (sm_n xl) xbk xbp xbh (sm_n fp) (sm_n fa) (sm_z sl (fr * 16) s) cn cl cr (sm_n cb) fw ou := by
    intro m
    induction m with
    | zero => intro s _ h; omega
    | succ m ih =>
      intro s hs hm
      refine pk_le 16 s (fun z => ?_) (fun z => ?_)
      · have e : s = 16 := by omega
        subst e
        exact And.intro v8 (nm_r (e' := sm_n (sm_u fp fr p)) (by rw [c8, sm_nu]) (And.intro vp (And.intro v8 (nm_r (e' := sm_n (sm_u fa fr (fi p))) (by rw [c8, cp1, sm_nap, sm_nu]) (nm_r (nI_1 fr) h)))))
      · rw [nI_add, nI_clamp (show fr * 16 + s < 2 ^ 31 by omega)]
        exact And.intro (vp_in_nI (by omega) (by decide)) (nm_r (sm_zs _ _ _) (nm_r (nI_1 s) (ih (s + 1) (by omega) (by omega))))
  refine nm_r (sm_mu16 fr) ⟨17, ?_⟩
  have k := L 17 0 (by omega) (by omega)
  rw [sm_z0] at k
  exact k
theorem sm_yen {post : SY → Prop} (h8 : fr < 8) (hp : p < 8) (h : post (nI cp, nI lm, sta, nI np, opn, nI nt, yh, yd, nI (fr + 1), nI bo, col, nI oc, res, sm_n tk, sm_n fi, sm_n pm, sm_n vs, sm_n mk, sm_k gl, yt, yb, ys, yr, sm_n (sm_u fp fr p), sm_n (sm_u fa fr (fi p)), sm_n (sm_u fh fr 0), sm_z lo (fr * 8) 8, st, he, nu, lf, rg, ou)) : wpY_enter post (nI cp, nI lm, sta, nI np, opn, nI nt, yh, yd, nI fr, nI bo, col, nI oc, res, sm_n tk, sm_n fi, sm_n pm, sm_n vs, sm_n mk, sm_k gl, yt, yb, ys, yr, sm_n fp, sm_n fa, sm_n fh, lo, st, he, nu, lf, rg, ou) (nI p) := by
  have v8 : vp_in (nI fr) 8 := vp_in_nI h8 (by decide)
  have c8 : (nI fr).toNatClampNeg = fr := nI_clamp (by omega)
  have vp : vp_in (nI p) 8 := vp_in_nI hp (by decide)
  have cp1 : (nI p).toNatClampNeg = p := nI_clamp (by omega)
  have L : ∀ m s, s ≤ 8 → 8 - s < m → wY_enter_2 post (nI p) (nI cp) (nI lm) sta (nI np) opn (nI nt) yh yd (nI fr) (nI bo) col (nI oc) res m (nI s) (sm_n tk) (sm_n fi) (sm_n pm) (sm_n vs) (sm_n mk) (sm_k gl) yt yb ys yr (sm_n fp) (sm_n fa) (sm_n fh) (sm_z lo (fr * 8) s) st he nu lf rg ou := by
    intro m
    induction m with
    | zero => intro s _ h; omega
    | succ m ih =>
      intro s hs hm
      refine pk_le 8 s (fun z => ?_) (fun z => ?_)
      · have e : s = 8 := by omega
        subst e
        exact And.intro v8 (nm_r (e' := sm_n (sm_u fp fr p)) (by rw [c8, sm_nu]) (And.intro vp (And.intro v8 (nm_r (e' := sm_n (sm_u fa fr (fi p))) (by rw [c8, cp1, sm_nap, sm_nu]) (And.intro v8 (nm_r (e' := sm_n (sm_u fh fr 0)) (by rw [c8]; exact sm_nu _ _ 0) (nm_r (nI_1 fr) h)))))))
      · rw [sm_mu8, nI_add, nI_clamp (show fr * 8 + s < 2 ^ 31 by omega)]
        exact And.intro (vp_in_nI (by omega) (by decide)) (nm_r (sm_zs _ _ _) (nm_r (nI_1 s) (ih (s + 1) (by omega) (by omega))))
  refine ⟨9, ?_⟩
  have k := L 9 0 (by omega) (by omega)
  rw [sm_z0] at k
  exact k
/-- the copying loops -/
theorem sm_xc52 {post : SX → Prop} {d r : Nat} (hp : p < 8) (h3 : pm p ≤ 3) (hr : r + pm p ≤ d) (hd : d + 3 ≤ 128) (h : post (xle, xpe, nI cp, nI lm, sta, nI np, opn, nI nt, xch, xck, xbc, nI fr, nI sb, nI us, xcb, xcc, col, nI bo, nI oc, res, sm_n pm, sm_n vs, sm_n mk, sm_k gl, sm_n fi, sm_n tk, sm_n xo, sm_n (sm_ar tk), sm_n xj, sm_n ow, sm_n xh, sm_n xk, sm_n xl, xbk, xbp, xbh, sm_n fp, sm_n fa, sm_cq sl sl d r (pm p), cn, cl, cr, sm_n cb, fw, ou)) : ∀ m v, v ≤ pm p → pm p - v < m → wX_stepCall_52 post (nI p) (nI d) (nI r) xle xpe (nI cp) (nI lm) sta (nI np) opn (nI nt) xch xck xbc (nI fr) (nI sb) (nI us) xcb xcc col (nI bo) (nI oc) res m (nI v) (sm_n pm) (sm_n vs) (sm_n mk) (sm_k gl) (sm_n fi) (sm_n tk) (sm_n xo) (sm_n (sm_ar tk)) (sm_n xj) (sm_n ow) (sm_n xh) (sm_n xk) (sm_n xl) xbk xbp xbh (sm_n fp) (sm_n fa) (sm_cq sl sl d r v) cn cl cr (sm_n cb) fw ou := by
  have vp : vp_in (nI p) 8 := vp_in_nI hp (by decide)
  have cp1 : (nI p).toNatClampNeg = p := nI_clamp (by omega)
  intro m
  induction m with
  | zero => intro v _ h; omega
  | succ m ih =>
    intro v hv hm
    unfold wX_stepCall_52
    rw [cp1, sm_nap]
    refine And.intro vp (pk_le (pm p) v (fun z => ?_) (fun z => ?_))
    · have e : v = pm p := by omega
      subst e
      exact h
    · rw [nI_add, nI_add, nI_clamp (show r + v < 2 ^ 31 by omega), nI_clamp (show d + v < 2 ^ 31 by omega)]
      exact And.intro (vp_in_nI (by omega) (by decide)) (And.intro (vp_in_nI (by omega) (by decide)) (nm_r (sm_cqs _ _ _ _ _ _ (if_neg (by omega))) (nm_r (nI_1 v) (ih (v + 1) (by omega) (by omega)))))
theorem sm_yc40 {post : SY → Prop} (h8 : f < 7) (hp : p < 8) (h3 : pm p ≤ 3) (hr : fh f + pm p ≤ 8) (h : post (nI cp, nI lm, sta, nI np, opn, nI nt, yh, yd, nI fr, nI bo, col, nI oc, res, sm_n tk, sm_n fi, sm_n pm, sm_n vs, sm_n mk, sm_k gl, yt, yb, ys, yr, sm_n fp, sm_n fa, sm_n fh, sm_cq lo st (f * 8 + 8) (f * 8 + fh f) (pm p), st, he, nu, lf, rg, ou)) : ∀ m v, v ≤ pm p → pm p - v < m → wY_call_40 post (nI f) (nI p) (nI cp) (nI lm) sta (nI np) opn (nI nt) yh yd (nI fr) (nI bo) col (nI oc) res m (nI v) (sm_n tk) (sm_n fi) (sm_n pm) (sm_n vs) (sm_n mk) (sm_k gl) yt yb ys yr (sm_n fp) (sm_n fa) (sm_n fh) (sm_cq lo st (f * 8 + 8) (f * 8 + fh f) v) st he nu lf rg ou := by
  have vp : vp_in (nI p) 8 := vp_in_nI hp (by decide)
  have cp1 : (nI p).toNatClampNeg = p := nI_clamp (by omega)
  have cf : (nI f).toNatClampNeg = f := nI_clamp (by omega)
  intro m
  induction m with
  | zero => intro v _ h; omega
  | succ m ih =>
    intro v hv hm
    unfold wY_call_40
    rw [cp1, sm_nap]
    refine And.intro vp (pk_le (pm p) v (fun z => ?_) (fun z => ?_))
    · have e : v = pm p := by omega
      subst e
      exact h
    · rw [cf, sm_nap, sm_mu8, nI_add, nI_add, sm_ad8, nI_add, nI_clamp (show f * 8 + fh f + v < 2 ^ 31 by omega), nI_clamp (show f * 8 + 8 + v < 2 ^ 31 by omega)]
      exact And.intro (vp_in_nI (by omega) (by decide)) (And.intro (vp_in_nI (by omega) (by decide)) (And.intro (vp_in_nI (by omega) (by decide)) (nm_r (sm_cqs _ _ _ _ _ _ rfl) (nm_r (nI_1 v) (ih (v + 1) (by omega) (by omega))))))
/-- the frames after a call -/
theorem sm_rnCall (hP : sm_PG 0 np nt pm vs mk gl fi tk xo xj ow hh kk dp pt hd) (hF : sm_RN np nt (f + 1) us sb lm pm vs mk tk ow hh kk xl fp fa fh cb sl lo st) (hlm : f + 2 ≤ lm) (h13 : tk (fa f) % 100 = 13) (ep : tk (fa f) / 100 = p) :
    sm_RN np nt (f + 1 + 1) us sb lm pm vs mk tk ow hh kk xl (sm_u fp (f + 1) p) (sm_u fa (f + 1) (fi p)) (sm_u (sm_u fh f (fh f - pm p)) (f + 1) 0) cb
      (sm_cq (sm_z sl ((f + 1) * 16) 16) (sm_z sl ((f + 1) * 16) 16) ((f + 1) * 16) (f * 16 + 8 + (fh f - pm p)) (pm p)) (sm_cq (sm_z lo ((f + 1) * 8) 8) st (f * 8 + 8) (f * 8 + (fh f - pm p)) (pm p)) st := by
  obtain ⟨r1, r2, hF⟩ := hF
  obtain ⟨f1, f2, f3, f4, f5⟩ := hF f (by omega)
  have f2 := f2 rfl
  obtain ⟨a1, a2, a3, a4, a5, a6, a7⟩ := sm_PA hP f1.2.1
  obtain ⟨b1, b2, b3, b4, b5, b6⟩ := sm_PB hP f1.2.1
  have hhb := sm_PH hP (show fa f ≤ nt by omega)
  have hpn : p < np := by rw [← ep]; exact a6 h13
  have hpop := sm_pop13 (pm := pm) h13
  rw [ep] at hpop
  obtain ⟨q1, q2, q3, q4, q5, q6, q7, q8, q9, q10⟩ := sm_PQ hP hpn
  have hfi : fi p < nt := by
    rcases q10 with z | z
    · exact z
    · exact absurd z.1 (by decide)
  have tb := (sm_tyb a1 a2 hhb.2 b1 (by omega) (by omega)).mp b3
  rw [hpop, sm_wk13 h13, ep] at tb
  refine ⟨by omega, by omega, fun g hg => ?_⟩
  have hlow : ∀ j, j < (f + 1) * 16 → sm_cq (sm_z sl ((f + 1) * 16) 16) (sm_z sl ((f + 1) * 16) 16) ((f + 1) * 16) (f * 16 + 8 + (fh f - pm p)) (pm p) j = sl j := by
    intro j hj
    unfold sm_cq sm_z
    rw [if_neg (by omega), if_neg (by omega)]
  have hlow2 : ∀ j, j < f * 8 + 8 → sm_cq (sm_z lo ((f + 1) * 8) 8) st (f * 8 + 8) (f * 8 + (fh f - pm p)) (pm p) j = lo j := by
    intro j hj
    unfold sm_cq sm_z
    rw [if_neg (by omega), if_neg (by omega)]
  by_cases e1 : g = f + 1
  · subst e1
    unfold sm_FR
    rw [sm_us, sm_us, sm_us]
    refine ⟨⟨hpn, hfi, q9 hfi⟩, fun _ => q7.symm, fun z => by omega, fun v hv => ?_, fun j hj => by omega⟩
    by_cases ev : v < pm p
    · have eX : sm_cq (sm_z sl ((f + 1) * 16) 16) (sm_z sl ((f + 1) * 16) 16) ((f + 1) * 16) (f * 16 + 8 + (fh f - pm p)) (pm p) ((f + 1) * 16 + v) = sl (f * 16 + 8 + (hh (fa f) - pm p + v)) := by
        unfold sm_cq sm_z
        rw [if_pos (by omega), if_neg (by omega)]
        congr 1
        omega
      have eY : sm_cq (sm_z lo ((f + 1) * 8) 8) st (f * 8 + 8) (f * 8 + (fh f - pm p)) (pm p) ((f + 1) * 8 + v) = st (f * 8 + (hh (fa f) - pm p + v)) := by
        unfold sm_cq
        rw [if_pos (by omega)]
        congr 1
        omega
      rw [eX, eY]
      have vk := f5 (hh (fa f) - pm p + v) (by omega)
      have tv := tb v ev
      rw [Nat.testBit_mod_two_pow, decide_eq_true ev, Bool.true_and] at tv
      rw [tv] at vk
      exact ⟨vk.1, fun z _ => vk.2 z⟩
    · have eX : sm_cq (sm_z sl ((f + 1) * 16) 16) (sm_z sl ((f + 1) * 16) 16) ((f + 1) * 16) (f * 16 + 8 + (fh f - pm p)) (pm p) ((f + 1) * 16 + v) = 0 := by
        unfold sm_cq sm_z
        rw [if_neg (by omega), if_pos (by omega)]
      have eY : sm_cq (sm_z lo ((f + 1) * 8) 8) st (f * 8 + 8) (f * 8 + (fh f - pm p)) (pm p) ((f + 1) * 8 + v) = 0 := by
        unfold sm_cq sm_z
        rw [if_neg (by omega), if_pos (by omega)]
      rw [eX, eY]
      exact ⟨fun _ => rfl, fun _ _ => Or.inl ⟨rfl, rfl⟩⟩
  · by_cases e2 : g = f
    · subst e2
      unfold sm_FR
      rw [sm_un e1, sm_un e1, sm_un e1, sm_us, sm_us]
      have hvs := (sm_PQ hP f1.1).2.2.1
      refine ⟨f1, fun z => by omega, fun _ => ⟨h13, by rw [ep]; omega, ep.symm⟩, fun v hv => ?_, fun j hj => ?_⟩
      · rw [hlow _ (by omega), hlow2 _ (by omega)]
        exact f4 v hv
      · rw [hlow _ (by omega)]
        exact f5 j (by omega)
    · have hFg := hF g (by omega)
      have h88 := sm_fh8 hP (show g < f + 1 by omega) hFg
      obtain ⟨g1, g2, g3, g4, g5⟩ := hFg
      unfold sm_FR
      rw [sm_un e1, sm_un e1, sm_un e1, sm_un e2, sm_un (show g + 1 ≠ f + 1 by omega)]
      refine ⟨g1, fun z => by omega, fun z => g3 (by omega), fun v hv => ?_, fun j hj => ?_⟩
      · rw [hlow _ (by omega), hlow2 _ (by omega)]
        exact g4 v hv
      · rw [hlow _ (by omega)]
        exact g5 j hj
theorem sm_xs13 {h : Nat} {post : SX → Prop} (h8 : f < 8) (hi : fa f < nt) (n160 : nt ≤ 160) (hxh : xh (fa f) = h) (hh8 : h ≤ 8) (hx : xo (fa f) = 13) (hp : ∀ Q : SX → Prop, (∀ u, post u → Q u) → wpX_stepCall Q (xle, xpe, nI cp, nI lm, sta, nI np, opn, nI nt, xch, xck, xbc, nI (f + 1), nI sb, nI us, xcb, xcc, col, nI bo, nI oc, res, sm_n pm, sm_n vs, sm_n mk, sm_k gl, sm_n fi, sm_n tk, sm_n xo, sm_n (sm_ar tk), sm_n xj, sm_n ow, sm_n xh, sm_n xk, sm_n xl, xbk, xbp, xbh, sm_n fp, sm_n fa, sl, cn, cl, cr, sm_n cb, fw, ou) (nI (fa f)) (nI (f * 16 + 8 + h))) : wpX_step post (xle, xpe, nI cp, nI lm, sta, nI np, opn, nI nt, xch, xck, xbc, nI (f + 1), nI sb, nI us, xcb, xcc, col, nI bo, nI oc, res, sm_n pm, sm_n vs, sm_n mk, sm_k gl, sm_n fi, sm_n tk, sm_n xo, sm_n (sm_ar tk), sm_n xj, sm_n ow, sm_n xh, sm_n xk, sm_n xl, xbk, xbp, xbh, sm_n fp, sm_n fa, sl, cn, cl, cr, sm_n cb, fw, ou) := by
  have v8 : vp_in (nI f) 8 := vp_in_nI h8 (by decide)
  have c8 : (nI f).toNatClampNeg = f := nI_clamp (by omega)
  have vi : vp_in (nI (fa f)) 160 := vp_in_nI (by omega) (by decide)
  have ci : (nI (fa f)).toNatClampNeg = fa f := nI_clamp (by omega)
  have eo : sm_n xo (nI (fa f)).toNatClampNeg = nI 13 := by rw [ci, sm_nap, hx]
  have eA : nI f * 16 + sm_n (sm_ar tk) (nI (fa f)).toNatClampNeg = nI (f * 16 + tk (fa f) / 100) := by rw [ci, sm_nap, sm_arap, sm_mu16, nI_add]
  have vT : h < 8 → vp_in (nI (f * 16 + 8 + h)) 128 := fun z => vp_in_nI (by omega) (by decide)
  have cT : (nI (f * 16 + 8 + h)).toNatClampNeg = f * 16 + 8 + h := nI_clamp (by omega)
  have hp := hp (fun u => match u with | (a0, a1, a2, a3, a4, a5, a6, a7, a8, a9, a10, a11, a12, a13, a14, a15, a16, a17, a18, a19, a20, a21, a22, a23, a24, a25, a26, a27, a28, a29, a30, a31, a32, a33, a34, a35, a36, a37, a38, a39, a40, a41, a42, a43, a44) => post (a0, a1, a2, a3, a4, a5, a6, a7, a8, a9, a10, a11, a12, a13, a14, a15, a16, a17, a18, a19, a20, a21, a22, a23, a24, a25, a26, a27, a28, a29, a30, a31, a32, a33, a34, a35, a36, a37, a38, a39, a40, a41, a42, a43, a44)) (fun u hu => by
    obtain ⟨a0, a1, a2, a3, a4, a5, a6, a7, a8, a9, a10, a11, a12, a13, a14, a15, a16, a17, a18, a19, a20, a21, a22, a23, a24, a25, a26, a27, a28, a29, a30, a31, a32, a33, a34, a35, a36, a37, a38, a39, a40, a41, a42, a43, a44⟩ := u
    exact hu)
  exact nm_r (e' := nI f) (nI_pred f) (br_t (nI_pos' (by omega)) (And.intro v8 (nm_r (e' := nI (fa f)) (by rw [c8, sm_nap]) (And.intro vi (nm_r (e' := nI 13) eo (And.intro vi (nm_r (e' := nI (f * 16 + 8 + h)) (by rw [ci, sm_nap, hxh, sm_mu16, sm_ad8, nI_add]) (br_t (by decide) (br_t (by decide) (br_f (by decide) (br_t (by decide) (br_t (by decide) (hp)))))))))))))
theorem sm_xca {h : Nat} {Q : SX → Prop} (h8 : f < 7) (hi : fa f < nt) (n160 : nt ≤ 160) (hh8 : h ≤ 8) (hlm : f + 1 < lm) (hlm8 : lm ≤ 8) (ep : tk (fa f) / 100 = p) (hp8 : p < 8) (h3 : pm p ≤ 3) (hle : pm p ≤ h)
    (hp : Q (xle, xpe, nI cp, nI lm, sta, nI np, opn, nI nt, xch, xck, xbc, nI (f + 1 + 1), nI sb, nI us, xcb, xcc, col, nI bo, nI oc, res, sm_n pm, sm_n vs, sm_n mk, sm_k gl, sm_n fi, sm_n tk, sm_n xo, sm_n (sm_ar tk), sm_n xj, sm_n ow, sm_n xh, sm_n xk, sm_n xl, xbk, xbp, xbh, sm_n (sm_u fp (f + 1) p), sm_n (sm_u fa (f + 1) (fi p)), sm_cq (sm_z sl ((f + 1) * 16) 16) (sm_z sl ((f + 1) * 16) 16) ((f + 1) * 16) (f * 16 + 8 + (h - pm p)) (pm p), cn, cl, cr, sm_n cb, fw, ou)) : wpX_stepCall Q (xle, xpe, nI cp, nI lm, sta, nI np, opn, nI nt, xch, xck, xbc, nI (f + 1), nI sb, nI us, xcb, xcc, col, nI bo, nI oc, res, sm_n pm, sm_n vs, sm_n mk, sm_k gl, sm_n fi, sm_n tk, sm_n xo, sm_n (sm_ar tk), sm_n xj, sm_n ow, sm_n xh, sm_n xk, sm_n xl, xbk, xbp, xbh, sm_n fp, sm_n fa, sl, cn, cl, cr, sm_n cb, fw, ou) (nI (fa f)) (nI (f * 16 + 8 + h)) := by
  have vi : vp_in (nI (fa f)) 160 := vp_in_nI (by omega) (by decide)
  have ci : (nI (fa f)).toNatClampNeg = fa f := nI_clamp (by omega)
  have cp1 : (nI p).toNatClampNeg = p := nI_clamp (by omega)
  refine br_t (nI_lt hlm (by omega)) (And.intro vi (nm_r (e' := nI p) (by rw [ci, sm_nap, sm_arap, ep]) (nm_r (e' := nI ((f + 1) * 16)) (sm_mu16 (f + 1)) (And.intro (vp_in_nI hp8 (by decide)) (nm_r (e' := nI (f * 16 + 8 + (h - pm p))) ?_ (sm_xof (by omega) hp8 ⟨pm p + 1, ?_⟩))))))
  · rw [cp1, sm_nap, pk_sub (by omega)]
    congr 1
    omega
  · have k := sm_xc52 (post := Q) (fr := f + 1 + 1) (fp := sm_u fp (f + 1) p) (fa := sm_u fa (f + 1) (fi p)) (sl := sm_z sl ((f + 1) * 16) 16) hp8 h3 (show f * 16 + 8 + (h - pm p) + pm p ≤ (f + 1) * 16 by omega) (by omega) hp (pm p + 1) 0 (by omega) (by omega)
    rw [sm_cq0] at k
    exact k
theorem sm_st13 (R : sm_REL 2 opn xch xck xbc cp lm np nt (f + 1) sb us bo oc pm vs mk fi tk xo xj ow xh xk xl fp fa fh cb gl xbk xbp xbh sl cn cl cr lo st he nu lf rg hh kk dp pt hd) (hx : xo (fa f) = 13) : sm_OUT (fun post => wpX_step post (xle, xpe, nI cp, nI lm, 2, nI np, opn, nI nt, xch, xck, xbc, nI (f + 1), nI sb, nI us, xcb, xcc, col, nI bo, nI oc, res, sm_n pm, sm_n vs, sm_n mk, sm_k gl, sm_n fi, sm_n tk, sm_n xo, sm_n (sm_ar tk), sm_n xj, sm_n ow, sm_n xh, sm_n xk, sm_n xl, xbk, xbp, xbh, sm_n fp, sm_n fa, sl, cn, cl, cr, sm_n cb, fw, ou)) (fun post => ∀ (yh yd : Int32) (yt yb ys yr : Nat → Int32), wpY_step post (nI cp, nI lm, 2, nI np, opn, nI nt, yh, yd, nI (f + 1), nI bo, col, nI oc, res, sm_n tk, sm_n fi, sm_n pm, sm_n vs, sm_n mk, sm_k gl, yt, yb, ys, yr, sm_n fp, sm_n fa, sm_n fh, lo, st, he, nu, lf, rg, ou)) := by
  obtain ⟨⟨l1, l2, l3⟩, hmk, hP, hxx, H, h0, h1, h2⟩ := R
  obtain ⟨rfl, n1, hL⟩ := h1 (by decide)
  have RN := h2 rfl
  obtain ⟨r1, r2, hF⟩ := id RN
  obtain ⟨⟨f1, hi, hp⟩, f2, f3, f4, f5⟩ := hF f (by omega)
  have f2 := f2 rfl
  have n160 := hP.1.2.1
  have h8 : f < 8 := by omega
  have hhb := sm_PH hP (show fa f ≤ nt by omega)
  have hh8 : hh (fa f) ≤ 8 := hhb.1
  have hf8 : fh f ≤ 8 := by omega
  have hxh := (hxx _ hi).1
  obtain ⟨a1, a2, a3, a4, a5, a6, a7⟩ := sm_PA hP hi
  obtain ⟨b1, b2, b3, b4, b5, b6⟩ := sm_PB hP hi
  have hvs := (sm_PQ hP f1).2.2.1
  obtain ⟨⟨p1, p2, p3, p4, psb⟩, q1, q2, q3⟩ := id H
  have hK : tk (fa f) % 100 = 13 := by
    obtain ⟨e1, e2⟩ := sm_xoe hP hi
    by_cases q : tk (fa f) % 100 = 24
    · rcases e2 q with z | z | z <;> omega
    · rw [← e1 q]; exact hx
  have hpop := sm_pop13 (pm := pm) hK
  have hle : sm_pop pm (tk (fa f)) ≤ fh f := by omega
  have hr : fh f - sm_pop pm (tk (fa f)) < 8 := by
    have hps : sm_ps (tk (fa f)) = 1 := if_pos (by omega)
    rw [b4] at b5
    unfold sm_h2 at b5
    omega
  have hs : sm_s1 xo xj (fa f) = some (fa f + 1) := by
    unfold sm_s1
    rw [if_neg (by omega), if_neg (by omega)]
  have hs2 := (sm_s1f hP hi hs).1
  have n8 := hP.1.1
  obtain ⟨p, ep⟩ : ∃ p, tk (fa f) / 100 = p := ⟨_, rfl⟩
  have hpn : p < np := by rw [← ep]; exact a6 hK
  rw [ep] at hpop
  have h3 := (sm_PQ hP hpn).1
  have HH := H
  by_cases cdeep : f + 1 = lm
  · refine sm_OUTi (xle := xle) (xpe := xpe) (sta := 6) (opn := 0) (xch := xch) (xck := xck) (xbc := xbc) (xcb := xcb) (xcc := xcc) (col := col) (res := res) (cp := cp) (lm := lm) (np := np) (nt := nt) (fr := f + 1) (sb := sb) (us := us) (bo := bo) (oc := oc) (pm := pm) (vs := vs) (mk := mk) (fi := fi) (tk := tk) (xo := xo) (xj := xj) (ow := ow) (xh := xh) (xk := xk) (xl := xl) (fp := fp) (fa := fa) (fh := fh) (cb := cb) (gl := gl) (xbk := xbk) (xbp := xbp) (xbh := xbh) (sl := sl) (cn := cn) (cl := cl) (cr := cr) (fw := fw) (ou := ou) (lo := lo) (st := st) (he := he) (nu := nu) (lf := lf) (rg := rg) (hh := hh) (kk := kk) (dp := dp) (pt := pt) (hd := hd) ?_ (fun post hp => sm_xs13 h8 hi n160 hxh hh8 hx (fun Q eQ => br_f (nI_nlt (by omega) (by omega)) (eQ _ hp))) (fun post hp2 yh yd yt yb ys yr => ?_)
    · exact ⟨⟨l1, l2, l3⟩, hmk, hP, hxx, H, fun z => absurd z (by decide), fun _ => ⟨rfl, n1, hL⟩, fun z => absurd z (by decide)⟩
    · refine sm_y128 hP h8 hi hf8 (fun x8 e8 => ?_)
      rw [hK]
      exact br_f (by decide) (br_t (by decide) (br_t (by decide) (br_f (by decide) (br_t (by decide) (br_t (by rw [cdeep]) (hp2 yh yd yt yb ys yr))))))
  · have RN' := sm_rnCall hP RN (by omega) hK ep
    have v8 : vp_in (nI f) 8 := vp_in_nI h8 (by decide)
    have c8 : (nI f).toNatClampNeg = f := nI_clamp (by omega)
    have cp1 : (nI p).toNatClampNeg = p := nI_clamp (by omega)
    refine sm_OUTi (xle := xle) (xpe := xpe) (sta := 2) (opn := 0) (xch := xch) (xck := xck) (xbc := xbc) (xcb := xcb) (xcc := xcc) (col := col) (res := res) (cp := cp) (lm := lm) (np := np) (nt := nt) (fr := f + 1 + 1) (sb := sb) (us := us) (bo := bo) (oc := oc) (pm := pm) (vs := vs) (mk := mk) (fi := fi) (tk := tk) (xo := xo) (xj := xj) (ow := ow) (xh := xh) (xk := xk) (xl := xl) (fp := sm_u fp (f + 1) p) (fa := sm_u fa (f + 1) (fi p)) (fh := sm_u (sm_u fh f (fh f - pm p)) (f + 1) 0) (cb := cb) (gl := gl) (xbk := xbk) (xbp := xbp) (xbh := xbh) (sl := sm_cq (sm_z sl ((f + 1) * 16) 16) (sm_z sl ((f + 1) * 16) 16) ((f + 1) * 16) (f * 16 + 8 + (fh f - pm p)) (pm p)) (cn := cn) (cl := cl) (cr := cr) (fw := fw) (ou := ou) (lo := sm_cq (sm_z lo ((f + 1) * 8) 8) st (f * 8 + 8) (f * 8 + (fh f - pm p)) (pm p)) (st := st) (he := he) (nu := nu) (lf := lf) (rg := rg) (hh := hh) (kk := kk) (dp := dp) (pt := pt) (hd := hd) ?_ (fun post hp => sm_xs13 h8 hi n160 hxh hh8 hx (fun Q eQ => sm_xca (by omega) hi n160 hh8 (by omega) l2 ep (by omega) h3 (by omega) (eQ _ (by rw [f2] at hp; exact hp)))) (fun post hp2 yh yd yt yb ys yr => ?_)
    · exact ⟨⟨l1, l2, l3⟩, hmk, hP, hxx, HH, fun z => absurd z (by decide), fun _ => ⟨rfl, n1, hL⟩, fun _ => RN'⟩
    · refine sm_y128 hP h8 hi hf8 (fun x8 e8 => ?_)
      rw [hK, ep]
      refine br_f (by decide) (br_t (by decide) (br_t (by decide) (br_f (by decide) (br_t (by decide) (br_f ?_ (And.intro v8 (And.intro (vp_in_nI (by omega) (by decide)) (And.intro v8 (nm_r (e' := sm_n (sm_u fh f (fh f - pm p))) (by rw [c8, sm_nap, cp1, sm_nap, pk_sub (by omega), sm_nu]) (sm_yen (by omega) (by omega) ⟨pm p + 1, ?_⟩))))))))))
      · exact fun z => cdeep ((nI_eq (by omega) (by omega)).mp z)
      · have e1 : sm_u (sm_u fh f (fh f - pm p)) (f + 1) 0 f = fh f - pm p := by rw [sm_un (by omega), sm_us]
        have hp3 := hp2 yh yd yt yb ys yr
        have hlo : sm_cq (sm_z lo ((f + 1) * 8) 8) st (f * 8 + 8) (f * 8 + (fh f - pm p)) (pm p) = sm_cq (sm_z lo ((f + 1) * 8) 8) st (f * 8 + 8) (f * 8 + sm_u (sm_u fh f (fh f - pm p)) (f + 1) 0 f) (pm p) := by rw [e1]
        rw [hlo] at hp3
        have k := sm_yc40 (post := post) (p := p) (fh := sm_u (sm_u fh f (fh f - pm p)) (f + 1) 0) (show f < 7 by omega) (by omega) h3 (by rw [e1]; omega) hp3 (pm p + 1) 0 (by omega) (by omega)
        rw [sm_cq0] at k
        exact k
end
end
section
/-! step, advance, run, start (printed by mk35.py) -/
section
variable {xle xpe sta opn xch xck xbc xcb xcc col res yh yd : Int32} {cp lm np nt fr sb us bo oc : Nat} {pm vs mk fi tk xo xj ow xh xk xl fp fa fh cb : Nat → Nat} {gl : Nat → Bool} {xbk xbp xbh sl cn cl cr fw ou yt yb ys yr lo st he nu lf rg : Nat → Int32} {hh kk dp : Nat → Nat} {pt hd : Nat → Nat → Nat}
variable {f : Nat}
theorem sm_step (R : sm_REL 2 opn xch xck xbc cp lm np nt fr sb us bo oc pm vs mk fi tk xo xj ow xh xk xl fp fa fh cb gl xbk xbp xbh sl cn cl cr lo st he nu lf rg hh kk dp pt hd) : sm_OUT (fun post => wpX_step post (xle, xpe, nI cp, nI lm, 2, nI np, opn, nI nt, xch, xck, xbc, nI fr, nI sb, nI us, xcb, xcc, col, nI bo, nI oc, res, sm_n pm, sm_n vs, sm_n mk, sm_k gl, sm_n fi, sm_n tk, sm_n xo, sm_n (sm_ar tk), sm_n xj, sm_n ow, sm_n xh, sm_n xk, sm_n xl, xbk, xbp, xbh, sm_n fp, sm_n fa, sl, cn, cl, cr, sm_n cb, fw, ou)) (fun post => ∀ (yh yd : Int32) (yt yb ys yr : Nat → Int32), wpY_step post (nI cp, nI lm, 2, nI np, opn, nI nt, yh, yd, nI fr, nI bo, col, nI oc, res, sm_n tk, sm_n fi, sm_n pm, sm_n vs, sm_n mk, sm_k gl, yt, yb, ys, yr, sm_n fp, sm_n fa, sm_n fh, lo, st, he, nu, lf, rg, ou)) := by
  have RN := R.2.2.2.2.2.2.2 rfl
  obtain ⟨f, rfl⟩ : ∃ f, fr = f + 1 := ⟨fr - 1, by have := RN.1; omega⟩
  have hx := sm_xol R.2.2.1 (RN.2.2 f (by omega)).1.2.1
  have h : xo (fa f) = 1 ∨ xo (fa f) = 2 ∨ xo (fa f) = 3 ∨ xo (fa f) = 4 ∨ xo (fa f) = 5 ∨ xo (fa f) = 6 ∨ xo (fa f) = 7 ∨ xo (fa f) = 8 ∨ xo (fa f) = 9 ∨ xo (fa f) = 10 ∨ xo (fa f) = 11 ∨ xo (fa f) = 12 ∨ xo (fa f) = 13 ∨ xo (fa f) = 14 ∨ xo (fa f) = 15 ∨ xo (fa f) = 16 ∨ xo (fa f) = 17 ∨ xo (fa f) = 18 ∨ xo (fa f) = 19 ∨ xo (fa f) = 20 ∨ xo (fa f) = 21 ∨ xo (fa f) = 22 ∨ xo (fa f) = 23 ∨ xo (fa f) = 24 ∨ xo (fa f) = 25 ∨ xo (fa f) = 26 ∨ xo (fa f) = 27 := by omega
  rcases h with h | h | h | h | h | h | h | h | h | h | h | h | h | h | h | h | h | h | h | h | h | h | h | h | h | h | h
  · exact sm_st1 R h
  · exact sm_st2 R h
  · exact sm_st3 R h
  · exact sm_st4 R h
  · exact sm_st5 R h
  · exact sm_st6 R h
  · exact sm_st7 R h
  · exact sm_st8 R h
  · exact sm_st9 R h
  · exact sm_st10 R h
  · exact sm_st11 R h
  · exact sm_st12 R h
  · exact sm_st13 R h
  · exact sm_st14 R h
  · exact sm_st15 R h
  · exact sm_st16 R h
  · exact sm_st17 R h
  · exact sm_st18 R h
  · exact sm_st19 R h
  · exact sm_st20 R h
  · exact sm_st21 R h
  · exact sm_st22 R h
  · exact sm_st23 R h
  · exact sm_st24 R h
  · exact sm_st25 R h
  · exact sm_st26 R h
  · exact sm_st27 R h
/-- advance -/
theorem sm_adv : ∀ m k, k + m = 7000 → ∀ (xle xpe sta opn xch xck xbc xcb xcc col res : Int32) (cp lm np nt fr sb us bo oc : Nat) (pm vs mk fi tk xo xj ow xh xk xl fp fa fh cb : Nat → Nat) (gl : Nat → Bool) (xbk xbp xbh sl cn cl cr fw ou lo st he nu lf rg : Nat → Int32) (hh kk dp : Nat → Nat) (pt hd : Nat → Nat → Nat), sm_REL sta opn xch xck xbc cp lm np nt fr sb us bo oc pm vs mk fi tk xo xj ow xh xk xl fp fa fh cb gl xbk xbp xbh sl cn cl cr lo st he nu lf rg hh kk dp pt hd → sm_OUT (fun post => wX_advance_2 post (m + 1) (nI k) xle xpe (nI cp) (nI lm) sta (nI np) opn (nI nt) xch xck xbc (nI fr) (nI sb) (nI us) xcb xcc col (nI bo) (nI oc) res (sm_n pm) (sm_n vs) (sm_n mk) (sm_k gl) (sm_n fi) (sm_n tk) (sm_n xo) (sm_n (sm_ar tk)) (sm_n xj) (sm_n ow) (sm_n xh) (sm_n xk) (sm_n xl) xbk xbp xbh (sm_n fp) (sm_n fa) sl cn cl cr (sm_n cb) fw ou) (fun post => ∀ (yh yd : Int32) (yt yb ys yr : Nat → Int32), wY_advance_2 post (m + 1) (nI k) (nI cp) (nI lm) sta (nI np) opn (nI nt) yh yd (nI fr) (nI bo) col (nI oc) res (sm_n tk) (sm_n fi) (sm_n pm) (sm_n vs) (sm_n mk) (sm_k gl) yt yb ys yr (sm_n fp) (sm_n fa) (sm_n fh) lo st he nu lf rg ou) := by
  intro m
  induction m with
  | zero =>
    intro k hk xle xpe sta opn xch xck xbc xcb xcc col res cp lm np nt fr sb us bo oc pm vs mk fi tk xo xj ow xh xk xl fp fa fh cb gl xbk xbp xbh sl cn cl cr fw ou lo st he nu lf rg hh kk dp pt hd R
    have h7 : (7000 : Int32) ≤ nI k := nI_le (a := 7000) (by omega) (by omega)
    exact sm_OUTi (xle := xle) (xpe := xpe) (sta := sta) (opn := opn) (xch := xch) (xck := xck) (xbc := xbc) (xcb := xcb) (xcc := xcc) (col := col) (res := res) (cp := cp) (lm := lm) (np := np) (nt := nt) (fr := fr) (sb := sb) (us := us) (bo := bo) (oc := oc) (pm := pm) (vs := vs) (mk := mk) (fi := fi) (tk := tk) (xo := xo) (xj := xj) (ow := ow) (xh := xh) (xk := xk) (xl := xl) (fp := fp) (fa := fa) (fh := fh) (cb := cb) (gl := gl) (xbk := xbk) (xbp := xbp) (xbh := xbh) (sl := sl) (cn := cn) (cl := cl) (cr := cr) (fw := fw) (ou := ou) (lo := lo) (st := st) (he := he) (nu := nu) (lf := lf) (rg := rg) (hh := hh) (kk := kk) (dp := dp) (pt := pt) (hd := hd) R (fun post h => br_t h7 h) (fun post h yh yd yt yb ys yr => br_t h7 (h yh yd yt yb ys yr))
  | succ m ih =>
    intro k hk xle xpe sta opn xch xck xbc xcb xcc col res cp lm np nt fr sb us bo oc pm vs mk fi tk xo xj ow xh xk xl fp fa fh cb gl xbk xbp xbh sl cn cl cr fw ou lo st he nu lf rg hh kk dp pt hd R
    have h7 : ¬ (7000 : Int32) ≤ nI k := nI_ge (b := 7000) (by omega) (by decide)
    by_cases hs : sta = 2
    rotate_left
    · exact sm_OUTi (xle := xle) (xpe := xpe) (sta := sta) (opn := opn) (xch := xch) (xck := xck) (xbc := xbc) (xcb := xcb) (xcc := xcc) (col := col) (res := res) (cp := cp) (lm := lm) (np := np) (nt := nt) (fr := fr) (sb := sb) (us := us) (bo := bo) (oc := oc) (pm := pm) (vs := vs) (mk := mk) (fi := fi) (tk := tk) (xo := xo) (xj := xj) (ow := ow) (xh := xh) (xk := xk) (xl := xl) (fp := fp) (fa := fa) (fh := fh) (cb := cb) (gl := gl) (xbk := xbk) (xbp := xbp) (xbh := xbh) (sl := sl) (cn := cn) (cl := cl) (cr := cr) (fw := fw) (ou := ou) (lo := lo) (st := st) (he := he) (nu := nu) (lf := lf) (rg := rg) (hh := hh) (kk := kk) (dp := dp) (pt := pt) (hd := hd) R (fun post h => br_f h7 (br_f hs h)) (fun post h yh yd yt yb ys yr => br_f h7 (br_f hs (h yh yd yt yb ys yr)))
    subst hs
    have RN := R.2.2.2.2.2.2.2 rfl
    have hP := R.2.2.1
    obtain ⟨r1, r2, hF⟩ := RN
    have hlm := R.1.2.1
    have n160 := hP.1.2.1
    have hi := (hF (fr - 1) (by omega)).1.2.1
    have ef : nI fr - 1 = nI (fr - 1) := sm_sb1 r1
    have v8 : vp_in (nI fr - 1) 8 := by rw [ef]; exact vp_in_nI (by omega) (by decide)
    have ea : sm_n fa (nI fr - 1).toNatClampNeg = nI (fa (fr - 1)) := by rw [ef, nI_clamp (by omega), sm_nap]
    cases hsp : sm_sp xo (fa (fr - 1))
    · refine sm_OUTe (sm_step (xle := xle) (xpe := xpe) (xcb := xcb) (xcc := xcc) (col := col) (res := res) (fw := fw) (ou := ou) R) ?_
      intro xle2 xpe2 sta2 opn2 xch2 xck2 xbc2 xcb2 xcc2 col2 res2 cp2 lm2 np2 nt2 fr2 sb2 us2 bo2 oc2 pm2 vs2 mk2 fi2 tk2 xo2 xj2 ow2 xh2 xk2 xl2 fp2 fa2 fh2 cb2 gl2 xbk2 xbp2 xbh2 sl2 cn2 cl2 cr2 fw2 ou2 lo2 st2 he2 nu2 lf2 rg2 hh2 kk2 dp2 pt2 hd2 R' hX hY
      refine sm_OUTe (ih (k + 1) (by omega) xle2 xpe2 sta2 opn2 xch2 xck2 xbc2 xcb2 xcc2 col2 res2 cp2 lm2 np2 nt2 fr2 sb2 us2 bo2 oc2 pm2 vs2 mk2 fi2 tk2 xo2 xj2 ow2 xh2 xk2 xl2 fp2 fa2 fh2 cb2 gl2 xbk2 xbp2 xbh2 sl2 cn2 cl2 cr2 fw2 ou2 lo2 st2 he2 nu2 lf2 rg2 hh2 kk2 dp2 pt2 hd2 R') ?_
      intro xle3 xpe3 sta3 opn3 xch3 xck3 xbc3 xcb3 xcc3 col3 res3 cp3 lm3 np3 nt3 fr3 sb3 us3 bo3 oc3 pm3 vs3 mk3 fi3 tk3 xo3 xj3 ow3 xh3 xk3 xl3 fp3 fa3 fh3 cb3 gl3 xbk3 xbp3 xbh3 sl3 cn3 cl3 cr3 fw3 ou3 lo3 st3 he3 nu3 lf3 rg3 hh3 kk3 dp3 pt3 hd3 R'' hX' hY'
      refine sm_OUTi (xle := xle3) (xpe := xpe3) (sta := sta3) (opn := opn3) (xch := xch3) (xck := xck3) (xbc := xbc3) (xcb := xcb3) (xcc := xcc3) (col := col3) (res := res3) (cp := cp3) (lm := lm3) (np := np3) (nt := nt3) (fr := fr3) (sb := sb3) (us := us3) (bo := bo3) (oc := oc3) (pm := pm3) (vs := vs3) (mk := mk3) (fi := fi3) (tk := tk3) (xo := xo3) (xj := xj3) (ow := ow3) (xh := xh3) (xk := xk3) (xl := xl3) (fp := fp3) (fa := fa3) (fh := fh3) (cb := cb3) (gl := gl3) (xbk := xbk3) (xbp := xbp3) (xbh := xbh3) (sl := sl3) (cn := cn3) (cl := cl3) (cr := cr3) (fw := fw3) (ou := ou3) (lo := lo3) (st := st3) (he := he3) (nu := nu3) (lf := lf3) (rg := rg3) (hh := hh3) (kk := kk3) (dp := dp3) (pt := pt3) (hd := hd3) R'' (fun post h => br_f h7 (br_t rfl (And.intro v8 ?_))) (fun post h yh yd yt yb ys yr => br_f h7 (br_t rfl (And.intro v8 ?_)))
      · rw [ea]
        refine sm_xsp hP hi ?_
        rw [hsp]
        exact br_t rfl (hX _ (nm_r (nI_1 k) (hX' post h)))
      · rw [ea]
        refine sm_ysp hP hi ?_
        rw [hsp]
        exact br_t rfl (hY _ (fun yh yd yt yb ys yr => nm_r (nI_1 k) (hY' post h yh yd yt yb ys yr)) yh yd yt yb ys yr)
    · refine sm_OUTi (xle := xle) (xpe := xpe) (sta := 2) (opn := opn) (xch := xch) (xck := xck) (xbc := xbc) (xcb := xcb) (xcc := xcc) (col := col) (res := res) (cp := cp) (lm := lm) (np := np) (nt := nt) (fr := fr) (sb := sb) (us := us) (bo := bo) (oc := oc) (pm := pm) (vs := vs) (mk := mk) (fi := fi) (tk := tk) (xo := xo) (xj := xj) (ow := ow) (xh := xh) (xk := xk) (xl := xl) (fp := fp) (fa := fa) (fh := fh) (cb := cb) (gl := gl) (xbk := xbk) (xbp := xbp) (xbh := xbh) (sl := sl) (cn := cn) (cl := cl) (cr := cr) (fw := fw) (ou := ou) (lo := lo) (st := st) (he := he) (nu := nu) (lf := lf) (rg := rg) (hh := hh) (kk := kk) (dp := dp) (pt := pt) (hd := hd) R (fun post h => br_f h7 (br_t rfl (And.intro v8 ?_))) (fun post h yh yd yt yb ys yr => br_f h7 (br_t rfl (And.intro v8 ?_)))
      · rw [ea]
        refine sm_xsp hP hi ?_
        rw [hsp]
        exact br_f (by decide) h
      · rw [ea]
        refine sm_ysp hP hi ?_
        rw [hsp]
        exact br_f (by decide) (h yh yd yt yb ys yr)
/-- outcomes with an answer: the state -/
def sm_OT2 (PX : (Int32 → SX → Prop) → Prop) (PY : (Int32 → SY → Prop) → Prop) : Prop := ∃ (xle xpe sta opn xch xck xbc xcb xcc col res : Int32) (cp lm np nt fr sb us bo oc : Nat) (pm vs mk fi tk xo xj ow xh xk xl fp fa fh cb : Nat → Nat) (gl : Nat → Bool) (xbk xbp xbh sl cn cl cr fw ou lo st he nu lf rg : Nat → Int32) (hh kk dp : Nat → Nat) (pt hd : Nat → Nat → Nat), sm_REL sta opn xch xck xbc cp lm np nt fr sb us bo oc pm vs mk fi tk xo xj ow xh xk xl fp fa fh cb gl xbk xbp xbh sl cn cl cr lo st he nu lf rg hh kk dp pt hd ∧ (∀ post : Int32 → SX → Prop, post sta (xle, xpe, nI cp, nI lm, sta, nI np, opn, nI nt, xch, xck, xbc, nI fr, nI sb, nI us, xcb, xcc, col, nI bo, nI oc, res, sm_n pm, sm_n vs, sm_n mk, sm_k gl, sm_n fi, sm_n tk, sm_n xo, sm_n (sm_ar tk), sm_n xj, sm_n ow, sm_n xh, sm_n xk, sm_n xl, xbk, xbp, xbh, sm_n fp, sm_n fa, sl, cn, cl, cr, sm_n cb, fw, ou) → PX post) ∧ (∀ post : Int32 → SY → Prop, (∀ (yh yd : Int32) (yt yb ys yr : Nat → Int32), post sta (nI cp, nI lm, sta, nI np, opn, nI nt, yh, yd, nI fr, nI bo, col, nI oc, res, sm_n tk, sm_n fi, sm_n pm, sm_n vs, sm_n mk, sm_k gl, yt, yb, ys, yr, sm_n fp, sm_n fa, sm_n fh, lo, st, he, nu, lf, rg, ou)) → PY post)
theorem sm_OT2i {PX : (Int32 → SX → Prop) → Prop} {PY : (Int32 → SY → Prop) → Prop} (R : sm_REL sta opn xch xck xbc cp lm np nt fr sb us bo oc pm vs mk fi tk xo xj ow xh xk xl fp fa fh cb gl xbk xbp xbh sl cn cl cr lo st he nu lf rg hh kk dp pt hd) (hX : ∀ post : Int32 → SX → Prop, post sta (xle, xpe, nI cp, nI lm, sta, nI np, opn, nI nt, xch, xck, xbc, nI fr, nI sb, nI us, xcb, xcc, col, nI bo, nI oc, res, sm_n pm, sm_n vs, sm_n mk, sm_k gl, sm_n fi, sm_n tk, sm_n xo, sm_n (sm_ar tk), sm_n xj, sm_n ow, sm_n xh, sm_n xk, sm_n xl, xbk, xbp, xbh, sm_n fp, sm_n fa, sl, cn, cl, cr, sm_n cb, fw, ou) → PX post) (hY : ∀ post : Int32 → SY → Prop, (∀ (yh yd : Int32) (yt yb ys yr : Nat → Int32), post sta (nI cp, nI lm, sta, nI np, opn, nI nt, yh, yd, nI fr, nI bo, col, nI oc, res, sm_n tk, sm_n fi, sm_n pm, sm_n vs, sm_n mk, sm_k gl, yt, yb, ys, yr, sm_n fp, sm_n fa, sm_n fh, lo, st, he, nu, lf, rg, ou)) → PY post) : sm_OT2 PX PY :=
  ⟨xle, xpe, sta, opn, xch, xck, xbc, xcb, xcc, col, res, cp, lm, np, nt, fr, sb, us, bo, oc, pm, vs, mk, fi, tk, xo, xj, ow, xh, xk, xl, fp, fa, fh, cb, gl, xbk, xbp, xbh, sl, cn, cl, cr, fw, ou, lo, st, he, nu, lf, rg, hh, kk, dp, pt, hd, R, hX, hY⟩
theorem sm_OT2e {PX : (Int32 → SX → Prop) → Prop} {PY : (Int32 → SY → Prop) → Prop} {C : Prop} (I : sm_OT2 PX PY) (h : ∀ (xle xpe sta opn xch xck xbc xcb xcc col res : Int32) (cp lm np nt fr sb us bo oc : Nat) (pm vs mk fi tk xo xj ow xh xk xl fp fa fh cb : Nat → Nat) (gl : Nat → Bool) (xbk xbp xbh sl cn cl cr fw ou lo st he nu lf rg : Nat → Int32) (hh kk dp : Nat → Nat) (pt hd : Nat → Nat → Nat), sm_REL sta opn xch xck xbc cp lm np nt fr sb us bo oc pm vs mk fi tk xo xj ow xh xk xl fp fa fh cb gl xbk xbp xbh sl cn cl cr lo st he nu lf rg hh kk dp pt hd → (∀ post : Int32 → SX → Prop, post sta (xle, xpe, nI cp, nI lm, sta, nI np, opn, nI nt, xch, xck, xbc, nI fr, nI sb, nI us, xcb, xcc, col, nI bo, nI oc, res, sm_n pm, sm_n vs, sm_n mk, sm_k gl, sm_n fi, sm_n tk, sm_n xo, sm_n (sm_ar tk), sm_n xj, sm_n ow, sm_n xh, sm_n xk, sm_n xl, xbk, xbp, xbh, sm_n fp, sm_n fa, sl, cn, cl, cr, sm_n cb, fw, ou) → PX post) → (∀ post : Int32 → SY → Prop, (∀ (yh yd : Int32) (yt yb ys yr : Nat → Int32), post sta (nI cp, nI lm, sta, nI np, opn, nI nt, yh, yd, nI fr, nI bo, col, nI oc, res, sm_n tk, sm_n fi, sm_n pm, sm_n vs, sm_n mk, sm_k gl, yt, yb, ys, yr, sm_n fp, sm_n fa, sm_n fh, lo, st, he, nu, lf, rg, ou)) → PY post) → C) : C :=
  Exists.elim I fun xle I => Exists.elim I fun xpe I => Exists.elim I fun sta I => Exists.elim I fun opn I => Exists.elim I fun xch I => Exists.elim I fun xck I => Exists.elim I fun xbc I => Exists.elim I fun xcb I => Exists.elim I fun xcc I => Exists.elim I fun col I => Exists.elim I fun res I => Exists.elim I fun cp I => Exists.elim I fun lm I => Exists.elim I fun np I => Exists.elim I fun nt I => Exists.elim I fun fr I => Exists.elim I fun sb I => Exists.elim I fun us I => Exists.elim I fun bo I => Exists.elim I fun oc I => Exists.elim I fun pm I => Exists.elim I fun vs I => Exists.elim I fun mk I => Exists.elim I fun fi I => Exists.elim I fun tk I => Exists.elim I fun xo I => Exists.elim I fun xj I => Exists.elim I fun ow I => Exists.elim I fun xh I => Exists.elim I fun xk I => Exists.elim I fun xl I => Exists.elim I fun fp I => Exists.elim I fun fa I => Exists.elim I fun fh I => Exists.elim I fun cb I => Exists.elim I fun gl I => Exists.elim I fun xbk I => Exists.elim I fun xbp I => Exists.elim I fun xbh I => Exists.elim I fun sl I => Exists.elim I fun cn I => Exists.elim I fun cl I => Exists.elim I fun cr I => Exists.elim I fun fw I => Exists.elim I fun ou I => Exists.elim I fun lo I => Exists.elim I fun st I => Exists.elim I fun he I => Exists.elim I fun nu I => Exists.elim I fun lf I => Exists.elim I fun rg I => Exists.elim I fun hh I => Exists.elim I fun kk I => Exists.elim I fun dp I => Exists.elim I fun pt I => Exists.elim I fun hd I => h xle xpe sta opn xch xck xbc xcb xcc col res cp lm np nt fr sb us bo oc pm vs mk fi tk xo xj ow xh xk xl fp fa fh cb gl xbk xbp xbh sl cn cl cr fw ou lo st he nu lf rg hh kk dp pt hd I.1 I.2.1 I.2.2
theorem sm_run {T : Nat} (hT : T ≤ 16) : ∀ m k, k + m = T → ∀ (xle xpe sta opn xch xck xbc xcb xcc col res : Int32) (cp lm np nt fr sb us bo oc : Nat) (pm vs mk fi tk xo xj ow xh xk xl fp fa fh cb : Nat → Nat) (gl : Nat → Bool) (xbk xbp xbh sl cn cl cr fw ou lo st he nu lf rg : Nat → Int32) (hh kk dp : Nat → Nat) (pt hd : Nat → Nat → Nat), sm_REL sta opn xch xck xbc cp lm np nt fr sb us bo oc pm vs mk fi tk xo xj ow xh xk xl fp fa fh cb gl xbk xbp xbh sl cn cl cr lo st he nu lf rg hh kk dp pt hd → sm_OT2 (fun post => wX_run_34 post (nI T) (m + 1) (nI k) xle xpe (nI cp) (nI lm) sta (nI np) opn (nI nt) xch xck xbc (nI fr) (nI sb) (nI us) xcb xcc col (nI bo) (nI oc) res (sm_n pm) (sm_n vs) (sm_n mk) (sm_k gl) (sm_n fi) (sm_n tk) (sm_n xo) (sm_n (sm_ar tk)) (sm_n xj) (sm_n ow) (sm_n xh) (sm_n xk) (sm_n xl) xbk xbp xbh (sm_n fp) (sm_n fa) sl cn cl cr (sm_n cb) fw ou) (fun post => ∀ (yh yd : Int32) (yt yb ys yr : Nat → Int32), wY_run_34 post (nI T) (m + 1) (nI k) (nI cp) (nI lm) sta (nI np) opn (nI nt) yh yd (nI fr) (nI bo) col (nI oc) res (sm_n tk) (sm_n fi) (sm_n pm) (sm_n vs) (sm_n mk) (sm_k gl) yt yb ys yr (sm_n fp) (sm_n fa) (sm_n fh) lo st he nu lf rg ou) := by
  intro m
  induction m with
  | zero =>
    intro k hk xle xpe sta opn xch xck xbc xcb xcc col res cp lm np nt fr sb us bo oc pm vs mk fi tk xo xj ow xh xk xl fp fa fh cb gl xbk xbp xbh sl cn cl cr fw ou lo st he nu lf rg hh kk dp pt hd R
    have h7 : nI T ≤ nI k := nI_le (by omega) (by omega)
    exact sm_OT2i (xle := xle) (xpe := xpe) (sta := sta) (opn := opn) (xch := xch) (xck := xck) (xbc := xbc) (xcb := xcb) (xcc := xcc) (col := col) (res := res) (cp := cp) (lm := lm) (np := np) (nt := nt) (fr := fr) (sb := sb) (us := us) (bo := bo) (oc := oc) (pm := pm) (vs := vs) (mk := mk) (fi := fi) (tk := tk) (xo := xo) (xj := xj) (ow := ow) (xh := xh) (xk := xk) (xl := xl) (fp := fp) (fa := fa) (fh := fh) (cb := cb) (gl := gl) (xbk := xbk) (xbp := xbp) (xbh := xbh) (sl := sl) (cn := cn) (cl := cl) (cr := cr) (fw := fw) (ou := ou) (lo := lo) (st := st) (he := he) (nu := nu) (lf := lf) (rg := rg) (hh := hh) (kk := kk) (dp := dp) (pt := pt) (hd := hd) R (fun post h => br_t h7 h) (fun post h yh yd yt yb ys yr => br_t h7 (h yh yd yt yb ys yr))
  | succ m ih =>
    intro k hk xle xpe sta opn xch xck xbc xcb xcc col res cp lm np nt fr sb us bo oc pm vs mk fi tk xo xj ow xh xk xl fp fa fh cb gl xbk xbp xbh sl cn cl cr fw ou lo st he nu lf rg hh kk dp pt hd R
    have h7 : ¬ nI T ≤ nI k := nI_ge (by omega) (by omega)
    by_cases hs : sta = 2
    rotate_left
    · exact sm_OT2i (xle := xle) (xpe := xpe) (sta := sta) (opn := opn) (xch := xch) (xck := xck) (xbc := xbc) (xcb := xcb) (xcc := xcc) (col := col) (res := res) (cp := cp) (lm := lm) (np := np) (nt := nt) (fr := fr) (sb := sb) (us := us) (bo := bo) (oc := oc) (pm := pm) (vs := vs) (mk := mk) (fi := fi) (tk := tk) (xo := xo) (xj := xj) (ow := ow) (xh := xh) (xk := xk) (xl := xl) (fp := fp) (fa := fa) (fh := fh) (cb := cb) (gl := gl) (xbk := xbk) (xbp := xbp) (xbh := xbh) (sl := sl) (cn := cn) (cl := cl) (cr := cr) (fw := fw) (ou := ou) (lo := lo) (st := st) (he := he) (nu := nu) (lf := lf) (rg := rg) (hh := hh) (kk := kk) (dp := dp) (pt := pt) (hd := hd) R (fun post h => br_f h7 (br_f hs h)) (fun post h yh yd yt yb ys yr => br_f h7 (br_f hs (h yh yd yt yb ys yr)))
    subst hs
    refine sm_OUTe (sm_step (xle := xle) (xpe := xpe) (xcb := xcb) (xcc := xcc) (col := col) (res := res) (fw := fw) (ou := ou) R) ?_
    intro xle2 xpe2 sta2 opn2 xch2 xck2 xbc2 xcb2 xcc2 col2 res2 cp2 lm2 np2 nt2 fr2 sb2 us2 bo2 oc2 pm2 vs2 mk2 fi2 tk2 xo2 xj2 ow2 xh2 xk2 xl2 fp2 fa2 fh2 cb2 gl2 xbk2 xbp2 xbh2 sl2 cn2 cl2 cr2 fw2 ou2 lo2 st2 he2 nu2 lf2 rg2 hh2 kk2 dp2 pt2 hd2 R' hX hY
    by_cases hs' : sta2 = 2
    · refine sm_OUTe (sm_adv 7000 0 (by omega) xle2 xpe2 sta2 opn2 xch2 xck2 xbc2 xcb2 xcc2 col2 res2 cp2 lm2 np2 nt2 fr2 sb2 us2 bo2 oc2 pm2 vs2 mk2 fi2 tk2 xo2 xj2 ow2 xh2 xk2 xl2 fp2 fa2 fh2 cb2 gl2 xbk2 xbp2 xbh2 sl2 cn2 cl2 cr2 fw2 ou2 lo2 st2 he2 nu2 lf2 rg2 hh2 kk2 dp2 pt2 hd2 R') ?_
      intro xle3 xpe3 sta3 opn3 xch3 xck3 xbc3 xcb3 xcc3 col3 res3 cp3 lm3 np3 nt3 fr3 sb3 us3 bo3 oc3 pm3 vs3 mk3 fi3 tk3 xo3 xj3 ow3 xh3 xk3 xl3 fp3 fa3 fh3 cb3 gl3 xbk3 xbp3 xbh3 sl3 cn3 cl3 cr3 fw3 ou3 lo3 st3 he3 nu3 lf3 rg3 hh3 kk3 dp3 pt3 hd3 R'' hX' hY'
      refine sm_OT2e (ih (k + 1) (by omega) xle3 xpe3 sta3 opn3 xch3 xck3 xbc3 xcb3 xcc3 col3 res3 cp3 lm3 np3 nt3 fr3 sb3 us3 bo3 oc3 pm3 vs3 mk3 fi3 tk3 xo3 xj3 ow3 xh3 xk3 xl3 fp3 fa3 fh3 cb3 gl3 xbk3 xbp3 xbh3 sl3 cn3 cl3 cr3 fw3 ou3 lo3 st3 he3 nu3 lf3 rg3 hh3 kk3 dp3 pt3 hd3 R'') ?_
      intro xle4 xpe4 sta4 opn4 xch4 xck4 xbc4 xcb4 xcc4 col4 res4 cp4 lm4 np4 nt4 fr4 sb4 us4 bo4 oc4 pm4 vs4 mk4 fi4 tk4 xo4 xj4 ow4 xh4 xk4 xl4 fp4 fa4 fh4 cb4 gl4 xbk4 xbp4 xbh4 sl4 cn4 cl4 cr4 fw4 ou4 lo4 st4 he4 nu4 lf4 rg4 hh4 kk4 dp4 pt4 hd4 R3 hX3 hY3
      exact sm_OT2i (xle := xle4) (xpe := xpe4) (sta := sta4) (opn := opn4) (xch := xch4) (xck := xck4) (xbc := xbc4) (xcb := xcb4) (xcc := xcc4) (col := col4) (res := res4) (cp := cp4) (lm := lm4) (np := np4) (nt := nt4) (fr := fr4) (sb := sb4) (us := us4) (bo := bo4) (oc := oc4) (pm := pm4) (vs := vs4) (mk := mk4) (fi := fi4) (tk := tk4) (xo := xo4) (xj := xj4) (ow := ow4) (xh := xh4) (xk := xk4) (xl := xl4) (fp := fp4) (fa := fa4) (fh := fh4) (cb := cb4) (gl := gl4) (xbk := xbk4) (xbp := xbp4) (xbh := xbh4) (sl := sl4) (cn := cn4) (cl := cl4) (cr := cr4) (fw := fw4) (ou := ou4) (lo := lo4) (st := st4) (he := he4) (nu := nu4) (lf := lf4) (rg := rg4) (hh := hh4) (kk := kk4) (dp := dp4) (pt := pt4) (hd := hd4) R3 (fun post h => br_f h7 (br_t rfl (hX _ (br_t hs' ⟨7001, hX' _ (nm_r (nI_1 k) (hX3 post h))⟩)))) (fun post h yh yd yt yb ys yr => br_f h7 (br_t rfl (hY _ (fun yh yd yt yb ys yr => ⟨7001, hY' _ (fun yh yd yt yb ys yr => nm_r (nI_1 k) (hY3 post h yh yd yt yb ys yr)) yh yd yt yb ys yr⟩) yh yd yt yb ys yr)))
    · refine sm_OT2e (ih (k + 1) (by omega) xle2 xpe2 sta2 opn2 xch2 xck2 xbc2 xcb2 xcc2 col2 res2 cp2 lm2 np2 nt2 fr2 sb2 us2 bo2 oc2 pm2 vs2 mk2 fi2 tk2 xo2 xj2 ow2 xh2 xk2 xl2 fp2 fa2 fh2 cb2 gl2 xbk2 xbp2 xbh2 sl2 cn2 cl2 cr2 fw2 ou2 lo2 st2 he2 nu2 lf2 rg2 hh2 kk2 dp2 pt2 hd2 R') ?_
      intro xle4 xpe4 sta4 opn4 xch4 xck4 xbc4 xcb4 xcc4 col4 res4 cp4 lm4 np4 nt4 fr4 sb4 us4 bo4 oc4 pm4 vs4 mk4 fi4 tk4 xo4 xj4 ow4 xh4 xk4 xl4 fp4 fa4 fh4 cb4 gl4 xbk4 xbp4 xbh4 sl4 cn4 cl4 cr4 fw4 ou4 lo4 st4 he4 nu4 lf4 rg4 hh4 kk4 dp4 pt4 hd4 R3 hX3 hY3
      exact sm_OT2i (xle := xle4) (xpe := xpe4) (sta := sta4) (opn := opn4) (xch := xch4) (xck := xck4) (xbc := xbc4) (xcb := xcb4) (xcc := xcc4) (col := col4) (res := res4) (cp := cp4) (lm := lm4) (np := np4) (nt := nt4) (fr := fr4) (sb := sb4) (us := us4) (bo := bo4) (oc := oc4) (pm := pm4) (vs := vs4) (mk := mk4) (fi := fi4) (tk := tk4) (xo := xo4) (xj := xj4) (ow := ow4) (xh := xh4) (xk := xk4) (xl := xl4) (fp := fp4) (fa := fa4) (fh := fh4) (cb := cb4) (gl := gl4) (xbk := xbk4) (xbp := xbp4) (xbh := xbh4) (sl := sl4) (cn := cn4) (cl := cl4) (cr := cr4) (fw := fw4) (ou := ou4) (lo := lo4) (st := st4) (he := he4) (nu := nu4) (lf := lf4) (rg := rg4) (hh := hh4) (kk := kk4) (dp := dp4) (pt := pt4) (hd := hd4) R3 (fun post h => br_f h7 (br_t rfl (hX _ (br_f hs' (nm_r (nI_1 k) (hX3 post h)))))) (fun post h yh yd yt yb ys yr => br_f h7 (br_t rfl (hY _ (fun yh yd yt yb ys yr => ⟨1, br_f (by decide) (br_f hs' (nm_r (nI_1 k) (hY3 post h yh yd yt yb ys yr)))⟩) yh yd yt yb ys yr)))
end
end
section
/-! start (printed by mk36.py) -/
section
variable {xle xpe sta opn xch xck xbc xcb xcc col res yh yd : Int32} {cp lm np nt fr sb us bo oc : Nat} {pm vs mk fi tk xo xj ow xh xk xl fp fa fh cb : Nat → Nat} {gl : Nat → Bool} {xbk xbp xbh sl cn cl cr fw ou yt yb ys yr lo st he nu lf rg : Nat → Int32} {hh kk dp : Nat → Nat} {pt hd : Nat → Nat → Nat}
variable {p : Nat} {x y z : Int32}
def sm_ia (s : Nat → Int32) (m : Nat) (av : Nat → Int32) (v : Nat) : Nat → Int32 := fun j => if j < v ∧ m.testBit j = false then av j else s j
def sm_av (x y z : Int32) : Nat → Int32 := fun v => if v = 0 then x else if v = 1 then y else z
theorem sm_ia1 {s av : Nat → Int32} {m v : Nat} (h : m.testBit v = false) : upd (sm_ia s m av v) v (av v) = sm_ia s m av (v + 1) := by
  funext j
  unfold sm_ia
  by_cases e : j = v
  · rw [e, pk_us, if_pos ⟨by omega, h⟩]
  · rw [pk_un e]
    by_cases c : j < v ∧ m.testBit j = false
    · rw [if_pos c, if_pos ⟨by omega, c.2⟩]
    · rw [if_neg c, if_neg (fun w => c ⟨by omega, w.2⟩)]
theorem sm_ia2 {s av : Nat → Int32} {m v : Nat} (h : m.testBit v = true) : sm_ia s m av v = sm_ia s m av (v + 1) := by
  funext j
  unfold sm_ia
  by_cases e : j = v
  · rw [e, if_neg (by omega), if_neg (fun w => by rw [h] at w; exact absurd w.2 (by decide))]
  · by_cases c : j < v ∧ m.testBit j = false
    · rw [if_pos c, if_pos ⟨by omega, c.2⟩]
    · rw [if_neg c, if_neg (fun w => c ⟨by omega, w.2⟩)]
theorem sm_ia0 {s av : Nat → Int32} {m : Nat} : sm_ia s m av 0 = s := by
  funext j
  exact if_neg (by omega)
theorem sm_x36 {post : Int32 → SX → Prop} (hp : p < 8) (h3 : pm p ≤ 3) (hm : mk p < 256) (hK : ∀ n, wX_start_36 post (nI p) x y z xle xpe (nI cp) (nI lm) sta (nI np) opn (nI nt) xch xck xbc (nI fr) (nI sb) (nI us) xcb xcc col (nI bo) (nI oc) res (n + 1) (nI (pm p)) (sm_n pm) (sm_n vs) (sm_n mk) (sm_k gl) (sm_n fi) (sm_n tk) (sm_n xo) (sm_n (sm_ar tk)) (sm_n xj) (sm_n ow) (sm_n xh) (sm_n xk) (sm_n xl) xbk xbp xbh (sm_n fp) (sm_n fa) (sm_ia sl (mk p) (sm_av x y z) (pm p)) cn cl cr (sm_n cb) fw ou) :
    ∀ m v, v ≤ pm p → pm p - v < m → wX_start_36 post (nI p) x y z xle xpe (nI cp) (nI lm) sta (nI np) opn (nI nt) xch xck xbc (nI fr) (nI sb) (nI us) xcb xcc col (nI bo) (nI oc) res m (nI v) (sm_n pm) (sm_n vs) (sm_n mk) (sm_k gl) (sm_n fi) (sm_n tk) (sm_n xo) (sm_n (sm_ar tk)) (sm_n xj) (sm_n ow) (sm_n xh) (sm_n xk) (sm_n xl) xbk xbp xbh (sm_n fp) (sm_n fa) (sm_ia sl (mk p) (sm_av x y z) v) cn cl cr (sm_n cb) fw ou := by
  have vp : vp_in (nI p) 8 := vp_in_nI hp (by decide)
  have cp1 : (nI p).toNatClampNeg = p := nI_clamp (by omega)
  intro m
  induction m with
  | zero => intro v _ h; omega
  | succ m ih =>
    intro v hv hm2
    by_cases e : v = pm p
    · subst e
      exact hK m
    · unfold wX_start_36
      rw [cp1, sm_nap, sm_nap, sm_bit (by omega) (by omega)]
      refine And.intro vp (br_f (nI_ge (by omega) (by omega)) (And.intro vp (ek_if sm_bz (fun hb => ?_) (fun hb => nm_r (nI_1 v) ?_))))
      · have cv : (nI v).toNatClampNeg = v := nI_clamp (by omega)
        have vv : vp_in (nI v) 128 := vp_in_nI (by omega) (by decide)
        have nx := ih (v + 1) (by omega) (by omega)
        rw [← sm_ia1 hb] at nx
        rw [cv]
        refine pk_eq v 0 (fun e0 => And.intro vv (nm_r (e' := upd (sm_ia sl (mk p) (sm_av x y z) v) v (sm_av x y z v)) (by unfold sm_av; rw [if_pos e0]) (nm_r (nI_1 v) nx))) (fun e0 => pk_eq v 1 (fun e1 => And.intro vv (nm_r (e' := upd (sm_ia sl (mk p) (sm_av x y z) v) v (sm_av x y z v)) (by unfold sm_av; rw [if_neg e0, if_pos e1]) (nm_r (nI_1 v) nx))) (fun e1 => And.intro vv (nm_r (e' := upd (sm_ia sl (mk p) (sm_av x y z) v) v (sm_av x y z v)) (by unfold sm_av; rw [if_neg e0, if_neg e1]) (nm_r (nI_1 v) nx))))
      · have nx := ih (v + 1) (by omega) (by omega)
        rw [← sm_ia2 (by
          cases h : (mk p).testBit v
          · exact absurd h hb
          · rfl)] at nx
        exact nx
theorem sm_y41 {post : Int32 → SY → Prop} (hp : p < 8) (h3 : pm p ≤ 3) (hm : mk p < 256) (hK : ∀ n, wY_start_41 post (nI p) x y z (nI cp) (nI lm) sta (nI np) opn (nI nt) yh yd (nI fr) (nI bo) col (nI oc) res (n + 1) (nI (pm p)) (sm_n tk) (sm_n fi) (sm_n pm) (sm_n vs) (sm_n mk) (sm_k gl) yt yb ys yr (sm_n fp) (sm_n fa) (sm_n fh) (sm_ia lo (mk p) (sm_av x y z) (pm p)) st he nu lf rg ou) :
    ∀ m v, v ≤ pm p → pm p - v < m → wY_start_41 post (nI p) x y z (nI cp) (nI lm) sta (nI np) opn (nI nt) yh yd (nI fr) (nI bo) col (nI oc) res m (nI v) (sm_n tk) (sm_n fi) (sm_n pm) (sm_n vs) (sm_n mk) (sm_k gl) yt yb ys yr (sm_n fp) (sm_n fa) (sm_n fh) (sm_ia lo (mk p) (sm_av x y z) v) st he nu lf rg ou := by
  have vp : vp_in (nI p) 8 := vp_in_nI hp (by decide)
  have cp1 : (nI p).toNatClampNeg = p := nI_clamp (by omega)
  intro m
  induction m with
  | zero => intro v _ h; omega
  | succ m ih =>
    intro v hv hm2
    by_cases e : v = pm p
    · subst e
      exact hK m
    · unfold wY_start_41
      rw [cp1, sm_nap, sm_nap, sm_bit (by omega) (by omega)]
      refine And.intro vp (br_f (nI_ge (by omega) (by omega)) (And.intro vp (ek_if sm_bz (fun hb => ?_) (fun hb => nm_r (nI_1 v) ?_))))
      · have cv : (nI v).toNatClampNeg = v := nI_clamp (by omega)
        have vv : vp_in (nI v) 64 := vp_in_nI (by omega) (by decide)
        have nx := ih (v + 1) (by omega) (by omega)
        rw [← sm_ia1 hb] at nx
        rw [cv]
        refine pk_eq v 0 (fun e0 => And.intro vv (nm_r (e' := upd (sm_ia lo (mk p) (sm_av x y z) v) v (sm_av x y z v)) (by unfold sm_av; rw [if_pos e0]) (nm_r (nI_1 v) nx))) (fun e0 => pk_eq v 1 (fun e1 => And.intro vv (nm_r (e' := upd (sm_ia lo (mk p) (sm_av x y z) v) v (sm_av x y z v)) (by unfold sm_av; rw [if_neg e0, if_pos e1]) (nm_r (nI_1 v) nx))) (fun e1 => And.intro vv (nm_r (e' := upd (sm_ia lo (mk p) (sm_av x y z) v) v (sm_av x y z v)) (by unfold sm_av; rw [if_neg e0, if_neg e1]) (nm_r (nI_1 v) nx))))
      · have nx := ih (v + 1) (by omega) (by omega)
        rw [← sm_ia2 (by
          cases h : (mk p).testBit v
          · exact absurd h hb
          · rfl)] at nx
        exact nx
theorem sm_rnStart (hP : sm_PG 0 np nt pm vs mk gl fi tk xo xj ow hh kk dp pt hd) (hp : p < np) (hlm : 1 ≤ lm) : sm_RN np nt (0 + 1) 0 0 lm pm vs mk tk ow hh kk xl (sm_u fp 0 p) (sm_u fa 0 (fi p)) (sm_u fh 0 0) cb (sm_ia (sm_z sl (0 * 16) 16) (mk p) (sm_av x y z) (pm p)) (sm_ia (sm_z lo (0 * 8) 8) (mk p) (sm_av x y z) (pm p)) st := by
  obtain ⟨q1, q2, q3, q4, q5, q6, q7, q8, q9, q10⟩ := sm_PQ hP hp
  have hfi : fi p < nt := by
    rcases q10 with w | w
    · exact w
    · exact absurd w.1 (by decide)
  refine ⟨by omega, hlm, fun g hg => ?_⟩
  have eg : g = 0 := by omega
  subst eg
  unfold sm_FR
  rw [sm_us, sm_us, sm_us]
  refine ⟨⟨hp, hfi, q9 hfi⟩, fun _ => q7.symm, fun w => by omega, fun v hv => ?_, fun j hj => by omega⟩
  have zX : sm_z sl (0 * 16) 16 (0 * 16 + v) = 0 := if_pos (by omega)
  have zY : sm_z lo (0 * 8) 8 (0 * 8 + v) = 0 := if_pos (by omega)
  unfold sm_ia
  rw [zX, zY, show 0 * 16 + v = v by omega]
  refine ⟨fun _ => rfl, fun hb _ => ?_⟩
  rw [if_neg (fun w => by rw [hb] at w; exact absurd w.2 (by decide))]
  exact Or.inl ⟨rfl, rfl⟩
theorem sm_hp0 (h1 : 2 ≤ cp) (h2 : cp ≤ 16) : sm_HP cp 0 0 0 cb cn cl cr he nu lf rg :=
  ⟨⟨h1, h2, by omega, by omega, Or.inl rfl⟩, fun c hc => by omega, fun c d hc => by omega, fun b b1 b2 => by omega⟩
theorem sm_start (R : sm_REL sta opn xch xck xbc cp lm np nt fr sb us bo oc pm vs mk fi tk xo xj ow xh xk xl fp fa fh cb gl xbk xbp xbh sl cn cl cr lo st he nu lf rg hh kk dp pt hd) (hs : sta ≠ 0) (hp : p < np) : sm_OT2 (fun post => wpX_start post (xle, xpe, nI cp, nI lm, sta, nI np, opn, nI nt, xch, xck, xbc, nI fr, nI sb, nI us, xcb, xcc, col, nI bo, nI oc, res, sm_n pm, sm_n vs, sm_n mk, sm_k gl, sm_n fi, sm_n tk, sm_n xo, sm_n (sm_ar tk), sm_n xj, sm_n ow, sm_n xh, sm_n xk, sm_n xl, xbk, xbp, xbh, sm_n fp, sm_n fa, sl, cn, cl, cr, sm_n cb, fw, ou) (nI p) x y z) (fun post => ∀ (yh yd : Int32) (yt yb ys yr : Nat → Int32), wpY_start post (nI cp, nI lm, sta, nI np, opn, nI nt, yh, yd, nI fr, nI bo, col, nI oc, res, sm_n tk, sm_n fi, sm_n pm, sm_n vs, sm_n mk, sm_k gl, yt, yb, ys, yr, sm_n fp, sm_n fa, sm_n fh, lo, st, he, nu, lf, rg, ou) (nI p) x y z) := by
  obtain ⟨⟨l1, l2, l3⟩, hmk, hP, hxx, H, h0, h1, h2⟩ := R
  obtain ⟨rfl, n1, hL⟩ := h1 hs
  have n8 := hP.1.1
  have h3 := (sm_PQ hP hp).1
  have RN := sm_rnStart (sl := sl) (lo := lo) (st := st) (cb := cb) (fp := fp) (fa := fa) (fh := fh) (xl := xl) (x := x) (y := y) (z := z) hP hp (show 1 ≤ lm by omega)
  have R1 : sm_REL 2 0 xch xck xbc cp lm np nt (0 + 1) 0 0 0 0 pm vs mk fi tk xo xj ow xh xk xl (sm_u fp 0 p) (sm_u fa 0 (fi p)) (sm_u fh 0 0) cb gl xbk xbp xbh (sm_ia (sm_z sl (0 * 16) 16) (mk p) (sm_av x y z) (pm p)) cn cl cr (sm_ia (sm_z lo (0 * 8) 8) (mk p) (sm_av x y z) (pm p)) st he nu lf rg hh kk dp pt hd :=
    ⟨⟨l1, l2, by omega⟩, hmk, hP, hxx, sm_hp0 H.1.1 H.1.2.1, fun w => absurd w (by decide), fun _ => ⟨rfl, n1, hL⟩, fun _ => RN⟩
  have A := sm_adv 7000 0 (by omega) xle xpe 2 0 xch xck xbc xcb xcc 0 0 cp lm np nt (0 + 1) 0 0 0 0 pm vs mk fi tk xo xj ow xh xk xl (sm_u fp 0 p) (sm_u fa 0 (fi p)) (sm_u fh 0 0) cb gl xbk xbp xbh (sm_ia (sm_z sl (0 * 16) 16) (mk p) (sm_av x y z) (pm p)) cn cl cr fw ou (sm_ia (sm_z lo (0 * 8) 8) (mk p) (sm_av x y z) (pm p)) st he nu lf rg hh kk dp pt hd R1
  refine sm_OUTe A ?_
  intro xle2 xpe2 sta2 opn2 xch2 xck2 xbc2 xcb2 xcc2 col2 res2 cp2 lm2 np2 nt2 fr2 sb2 us2 bo2 oc2 pm2 vs2 mk2 fi2 tk2 xo2 xj2 ow2 xh2 xk2 xl2 fp2 fa2 fh2 cb2 gl2 xbk2 xbp2 xbh2 sl2 cn2 cl2 cr2 fw2 ou2 lo2 st2 he2 nu2 lf2 rg2 hh2 kk2 dp2 pt2 hd2 R' hX hY
  have ep : ¬ nI p < 0 := nI_pos (by omega)
  have ep2 : nI p < nI np := nI_lt hp (by omega)
  have vp : vp_in (nI p) 8 := vp_in_nI (by omega) (by decide)
  have cp1 : (nI p).toNatClampNeg = p := nI_clamp (by omega)
  refine sm_OT2i (xle := xle2) (xpe := xpe2) (sta := sta2) (opn := opn2) (xch := xch2) (xck := xck2) (xbc := xbc2) (xcb := xcb2) (xcc := xcc2) (col := col2) (res := res2) (cp := cp2) (lm := lm2) (np := np2) (nt := nt2) (fr := fr2) (sb := sb2) (us := us2) (bo := bo2) (oc := oc2) (pm := pm2) (vs := vs2) (mk := mk2) (fi := fi2) (tk := tk2) (xo := xo2) (xj := xj2) (ow := ow2) (xh := xh2) (xk := xk2) (xl := xl2) (fp := fp2) (fa := fa2) (fh := fh2) (cb := cb2) (gl := gl2) (xbk := xbk2) (xbp := xbp2) (xbh := xbh2) (sl := sl2) (cn := cn2) (cl := cl2) (cr := cr2) (fw := fw2) (ou := ou2) (lo := lo2) (st := st2) (he := he2) (nu := nu2) (lf := lf2) (rg := rg2) (hh := hh2) (kk := kk2) (dp := dp2) (pt := pt2) (hd := hd2) R' (fun post h => br_f hs (br_f ep (br_t ep2 (sm_xof (fr := 0) (by omega) (by omega) ⟨pm p + 1, ?_⟩)))) (fun post h yh yd yt yb ys yr => br_f hs (br_f ep (br_t ep2 (sm_yen (fr := 0) (by omega) (by omega) ⟨pm p + 1, ?_⟩))))
  · rw [← sm_ia0 (s := sm_z sl (0 * 16) 16) (m := mk p) (av := sm_av x y z)]
    refine sm_x36 (by omega) h3 (hmk p) (fun n => ?_) (pm p + 1) 0 (by omega) (by omega)
    unfold wX_start_36
    rw [cp1, sm_nap]
    exact And.intro vp (br_t (nI_le (Nat.le_refl _) (by omega)) ⟨7001, hX _ h⟩)
  · rw [← sm_ia0 (s := sm_z lo (0 * 8) 8) (m := mk p) (av := sm_av x y z)]
    refine sm_y41 (by omega) h3 (hmk p) (fun n => ?_) (pm p + 1) 0 (by omega) (by omega)
    unfold wY_start_41
    rw [cp1, sm_nap]
    refine And.intro vp (br_t (nI_le (Nat.le_refl _) (by omega)) ⟨7001, hY _ ?_ yh yd yt yb ys yr⟩)
    exact fun yh yd yt yb ys yr => h yh yd yt yb ys yr
end
end
section
/-! new object, clear, proc, compile -/
section
variable {xle xpe sta opn xch xck xbc xcb xcc col res yh yd : Int32} {cp lm np nt fr sb us bo oc : Nat} {pm vs mk fi tk xo xj ow xh xk xl fp fa fh cb : Nat → Nat} {gl : Nat → Bool} {xbk xbp xbh sl cn cl cr fw ou yt yb ys yr lo st he nu lf rg : Nat → Int32} {hh kk dp : Nat → Nat} {pt hd : Nat → Nat → Nat}
variable {k : Nat}
theorem sm_PG0 : sm_PG 0 0 0 pm vs mk gl fi tk xo xj ow (fun _ => 0) (fun _ => 0) (fun _ => 0) pt hd :=
  ⟨⟨by omega, by omega, rfl, rfl, rfl⟩, Or.inl rfl, fun i hi => by omega, fun i hi => by omega, fun i hi => by omega, fun i hi => by omega, fun i hi => by omega, fun i hi => by omega, fun q hq => by omega, fun _ => ⟨rfl, rfl, rfl⟩, fun _ h => by omega, fun e => absurd e (by decide)⟩
theorem sm_REL0 (h1 : 2 ≤ cp) (h2 : cp ≤ 16) (h3 : 2 ≤ lm) (h4 : lm ≤ 8) (hmk : ∀ q, mk q < 256) : sm_REL 0 0 xch xck xbc cp lm 0 0 fr 0 0 0 0 pm vs mk fi tk xo xj ow xh xk xl fp fa fh cb gl xbk xbp xbh sl cn cl cr lo st he nu lf rg (fun _ => 0) (fun _ => 0) (fun _ => 0) pt hd :=
  ⟨⟨h3, h4, by omega⟩, hmk, sm_PG0, fun i hi => by omega, sm_hp0 h1 h2, fun _ => ⟨fun i hi => by omega, fun e => absurd rfl e⟩, fun e => absurd rfl e, fun e => absurd e (by decide)⟩
theorem sm_init0 {k cp lm : Nat} (h1 : 2 ≤ cp) (h2 : cp ≤ 16) (h3 : 2 ≤ lm) (h4 : lm ≤ 8) : i_Rel k (26, 27, nI cp, nI lm, 0, 0, 0, 0, 0, 0, 0, 0, 0, 0, 0, 0, 0, 0, 0, 0, (fun _ => 0), (fun _ => 0), (fun _ => 0), (fun _ => 0), (fun _ => 0), (fun _ => 0), (fun _ => 0), (fun _ => 0), (fun _ => 0), (fun _ => 0), (fun _ => 0), (fun _ => 0), (fun _ => 0), (fun _ => 0), (fun _ => 0), (fun _ => 0), (fun _ => 0), (fun _ => 0), (fun _ => 0), (fun _ => 0), (fun _ => 0), (fun _ => 0), (fun _ => 0), (fun _ => 0), (fun _ => 0)) (nI cp, nI lm, 0, 0, 0, 0, 0, 0, 0, 0, 0, 0, 0, (fun _ => 0), (fun _ => 0), (fun _ => 0), (fun _ => 0), (fun _ => 0), (fun _ => 0), (fun _ => 0), (fun _ => 0), (fun _ => 0), (fun _ => 0), (fun _ => 0), (fun _ => 0), (fun _ => 0), (fun _ => 0), (fun _ => 0), (fun _ => 0), (fun _ => 0), (fun _ => 0), (fun _ => 0), (fun _ => 0)) :=
  by
  have F := sm_in (k := k) (xle := 26) (xpe := 27) (sta := 0) (opn := 0) (xch := 0) (xck := 0) (xbc := 0) (xcb := 0) (xcc := 0) (col := 0) (res := 0) (yh := 0) (yd := 0) (cp := cp) (lm := lm) (np := 0) (nt := 0) (fr := 0) (sb := 0) (us := 0) (bo := 0) (oc := 0) (pm := (fun _ => 0)) (vs := (fun _ => 0)) (mk := (fun _ => 0)) (fi := (fun _ => 0)) (tk := (fun _ => 0)) (xo := (fun _ => 0)) (xj := (fun _ => 0)) (ow := (fun _ => 0)) (xh := (fun _ => 0)) (xk := (fun _ => 0)) (xl := (fun _ => 0)) (fp := (fun _ => 0)) (fa := (fun _ => 0)) (fh := (fun _ => 0)) (cb := (fun _ => 0)) (gl := (fun _ => false)) (xbk := (fun _ => 0)) (xbp := (fun _ => 0)) (xbh := (fun _ => 0)) (sl := (fun _ => 0)) (cn := (fun _ => 0)) (cl := (fun _ => 0)) (cr := (fun _ => 0)) (fw := (fun _ => 0)) (ou := (fun _ => 0)) (yt := (fun _ => 0)) (yb := (fun _ => 0)) (ys := (fun _ => 0)) (yr := (fun _ => 0)) (lo := (fun _ => 0)) (st := (fun _ => 0)) (he := (fun _ => 0)) (nu := (fun _ => 0)) (lf := (fun _ => 0)) (rg := (fun _ => 0)) (hh := (fun _ => 0)) (kk := (fun _ => 0)) (dp := (fun _ => 0)) (pt := (fun _ _ => 0)) (hd := (fun _ _ => 0)) (sm_REL0 h1 h2 h3 h4 (fun _ => by decide))
  have e1 : sm_n (sm_ar fun _ => 0) = fun _ => (0 : Int32) := by
    funext i
    show nI (0 / 100) = 0
    rw [Nat.zero_div]
    rfl
  have e2 : sm_k (fun _ => false) = fun _ => (0 : Int32) := rfl
  have e3 : sm_n (fun _ => 0) = fun _ => (0 : Int32) := rfl
  rw [e1, e2, e3, nI_0] at F
  exact F
theorem sm_clamp (x M : Int32) (n : Nat) (hM : M.toInt = n) (hn : 2 ≤ n) (hn2 : n < 100) (eM : M = nI n) : ∃ c, 2 ≤ c ∧ c ≤ n ∧ ((2 ≤ x ∧ x ≤ M ∧ x = nI c) ∨ (2 ≤ x ∧ ¬ x ≤ M ∧ c = n) ∨ (¬ 2 ≤ x ∧ c = 2)) := by
  by_cases h : 2 ≤ x
  · by_cases h2 : x ≤ M
    · obtain ⟨j, j1, j2⟩ := nI_of2 hM (fun z => by
        have a := Int32.le_iff_toInt_le.mp h
        have b := Int32.lt_iff_toInt_lt.mp z
        rw [show (2 : Int32).toInt = 2 by decide] at a
        rw [show (0 : Int32).toInt = 0 by decide] at b
        omega) h2
      refine ⟨j, ?_, j1, Or.inl ⟨h, h2, j2⟩⟩
      rw [j2] at h
      exact (sm_ge2 (by omega)).mp h
    · exact ⟨n, hn, Nat.le_refl _, Or.inr (Or.inl ⟨h, h2, rfl⟩)⟩
  · exact ⟨2, by omega, hn, Or.inr (Or.inr ⟨h, rfl⟩)⟩
theorem i_vc0 (k0 : Int32) (k1 : Int32) : wpX_init (fun u => wpY_init (fun v => i_Rel 2 u v) k0 k1) k0 k1 := by
  obtain ⟨cp, c1, c2, c3⟩ := sm_clamp k0 16 16 (by decide) (by omega) (by omega) rfl
  obtain ⟨lm, m1, m2, m3⟩ := sm_clamp k1 8 8 (by decide) (by omega) (by omega) rfl
  have F : i_Rel 2 (26, 27, nI cp, nI lm, 0, 0, 0, 0, 0, 0, 0, 0, 0, 0, 0, 0, 0, 0, 0, 0, (fun _ => 0), (fun _ => 0), (fun _ => 0), (fun _ => 0), (fun _ => 0), (fun _ => 0), (fun _ => 0), (fun _ => 0), (fun _ => 0), (fun _ => 0), (fun _ => 0), (fun _ => 0), (fun _ => 0), (fun _ => 0), (fun _ => 0), (fun _ => 0), (fun _ => 0), (fun _ => 0), (fun _ => 0), (fun _ => 0), (fun _ => 0), (fun _ => 0), (fun _ => 0), (fun _ => 0), (fun _ => 0)) (nI cp, nI lm, 0, 0, 0, 0, 0, 0, 0, 0, 0, 0, 0, (fun _ => 0), (fun _ => 0), (fun _ => 0), (fun _ => 0), (fun _ => 0), (fun _ => 0), (fun _ => 0), (fun _ => 0), (fun _ => 0), (fun _ => 0), (fun _ => 0), (fun _ => 0), (fun _ => 0), (fun _ => 0), (fun _ => 0), (fun _ => 0), (fun _ => 0), (fun _ => 0), (fun _ => 0), (fun _ => 0)) := sm_init0 c1 c2 m1 m2
  have Y247 : ∀ z0 : Int32, z0 = nI cp → wY_init_188 (fun v => i_Rel 2 (26, 27, nI cp, nI lm, 0, 0, 0, 0, 0, 0, 0, 0, 0, 0, 0, 0, 0, 0, 0, 0, (fun _ => 0), (fun _ => 0), (fun _ => 0), (fun _ => 0), (fun _ => 0), (fun _ => 0), (fun _ => 0), (fun _ => 0), (fun _ => 0), (fun _ => 0), (fun _ => 0), (fun _ => 0), (fun _ => 0), (fun _ => 0), (fun _ => 0), (fun _ => 0), (fun _ => 0), (fun _ => 0), (fun _ => 0), (fun _ => 0), (fun _ => 0), (fun _ => 0), (fun _ => 0), (fun _ => 0), (fun _ => 0)) v) k1 z0 0 0 0 0 0 0 0 0 0 0 0 0 0 (fun _ => 0) (fun _ => 0) (fun _ => 0) (fun _ => 0) (fun _ => 0) (fun _ => 0) (fun _ => 0) (fun _ => 0) (fun _ => 0) (fun _ => 0) (fun _ => 0) (fun _ => 0) (fun _ => 0) (fun _ => 0) (fun _ => 0) (fun _ => 0) (fun _ => 0) (fun _ => 0) (fun _ => 0) (fun _ => 0) := by
    intro z0 e
    subst e
    rcases m3 with ⟨a, b, c⟩ | ⟨a, b, c⟩ | ⟨a, c⟩
    · exact br_t a (br_t b (by rw [c]; exact F))
    · subst c; exact br_t a (br_f b F)
    · subst c; exact br_f a F
  have YY : wpY_init (fun v => i_Rel 2 (26, 27, nI cp, nI lm, 0, 0, 0, 0, 0, 0, 0, 0, 0, 0, 0, 0, 0, 0, 0, 0, (fun _ => 0), (fun _ => 0), (fun _ => 0), (fun _ => 0), (fun _ => 0), (fun _ => 0), (fun _ => 0), (fun _ => 0), (fun _ => 0), (fun _ => 0), (fun _ => 0), (fun _ => 0), (fun _ => 0), (fun _ => 0), (fun _ => 0), (fun _ => 0), (fun _ => 0), (fun _ => 0), (fun _ => 0), (fun _ => 0), (fun _ => 0), (fun _ => 0), (fun _ => 0), (fun _ => 0), (fun _ => 0)) v) k0 k1 := by
    rcases c3 with ⟨a, b, c⟩ | ⟨a, b, c⟩ | ⟨a, c⟩
    · exact br_t a (br_t b (Y247 k0 c))
    · subst c; exact br_t a (br_f b (Y247 16 rfl))
    · subst c; exact br_f a (Y247 2 rfl)
  have X247 : ∀ z0 : Int32, z0 = nI cp → wX_init_247 (fun u => wpY_init (fun v => i_Rel 2 u v) k0 k1) k1 z0 26 27 0 0 0 0 0 0 0 0 0 0 0 0 0 0 0 0 0 0 (fun _ => 0) (fun _ => 0) (fun _ => 0) (fun _ => 0) (fun _ => 0) (fun _ => 0) (fun _ => 0) (fun _ => 0) (fun _ => 0) (fun _ => 0) (fun _ => 0) (fun _ => 0) (fun _ => 0) (fun _ => 0) (fun _ => 0) (fun _ => 0) (fun _ => 0) (fun _ => 0) (fun _ => 0) (fun _ => 0) (fun _ => 0) (fun _ => 0) (fun _ => 0) (fun _ => 0) (fun _ => 0) := by
    intro z0 e
    subst e
    rcases m3 with ⟨a, b, c⟩ | ⟨a, b, c⟩ | ⟨a, c⟩
    · refine br_t a (br_t b ?_)
      rw [← c] at YY
      exact YY
    · subst c; exact br_t a (br_f b YY)
    · subst c; exact br_f a YY
  rcases c3 with ⟨a, b, c⟩ | ⟨a, b, c⟩ | ⟨a, c⟩
  · exact br_t a (br_t b (X247 k0 c))
  · subst c; exact br_t a (br_f b (X247 16 rfl))
  · subst c; exact br_f a (X247 2 rfl)
theorem i_vc_clear {k : Nat} {u : SX} {v : SY} (I : i_Rel k u v) (hk : k + 5 ≤ 2562) : wpX_clear (fun u' => wpY_clear (fun v' => i_Rel (k + 5) u' v') v) u := by
  refine sm_el (P := fun u v => wpX_clear (fun u' => wpY_clear (fun v' => i_Rel (k + 5) u' v') v) u) ?_ I
  intro xle xpe sta opn xch xck xbc xcb xcc col res yh yd cp lm np nt fr sb us bo oc pm vs mk fi tk xo xj ow xh xk xl fp fa fh cb gl xbk xbp xbh sl cn cl cr fw ou yt yb ys yr lo st he nu lf rg hh kk dp pt hd R
  have F := sm_in (k := k + 5) (xle := xle) (xpe := xpe) (sta := 0) (opn := 0) (xch := 0) (xck := 0) (xbc := 0) (xcb := xcb) (xcc := xcc) (col := 0) (res := 0) (yh := yh) (yd := yd) (cp := cp) (lm := lm) (np := 0) (nt := 0) (fr := 0) (sb := 0) (us := 0) (bo := 0) (oc := 0) (pm := pm) (vs := vs) (mk := mk) (fi := fi) (tk := tk) (xo := xo) (xj := xj) (ow := ow) (xh := xh) (xk := xk) (xl := xl) (fp := fp) (fa := fa) (fh := fh) (cb := cb) (gl := gl) (xbk := xbk) (xbp := xbp) (xbh := xbh) (sl := sl) (cn := cn) (cl := cl) (cr := cr) (fw := fw) (ou := ou) (yt := yt) (yb := yb) (ys := ys) (yr := yr) (lo := lo) (st := st) (he := he) (nu := nu) (lf := lf) (rg := rg) (hh := (fun _ => 0)) (kk := (fun _ => 0)) (dp := (fun _ => 0)) (pt := pt) (hd := hd) (sm_REL0 R.2.2.2.2.1.1.1 R.2.2.2.2.1.1.2.1 R.1.1 R.1.2.1 R.2.1)
  exact F
/-- the tables of another procedure -/
theorem sm_popc {pm' : Nat → Nat} {t : Nat} (h : t % 100 = 13 → pm' (t / 100) = pm (t / 100)) : sm_pop pm' t = sm_pop pm t := by
  unfold sm_pop
  by_cases e : t % 100 = 13
  · rw [h e]
  · rw [if_neg e, if_neg e]
theorem sm_pkc {mk' : Nat → Nat} {gl' : Nat → Bool} {p t : Nat} (h1 : mk' p = mk p) (h : t % 100 = 13 → gl' (t / 100) = gl (t / 100)) : sm_pk mk' gl' p t = sm_pk mk gl p t := by
  unfold sm_pk
  rw [h1]
  by_cases e : t % 100 = 13
  · rw [h e]
  · rw [if_neg e, if_neg e]
theorem sm_wkc {pm' mk' : Nat → Nat} {gl' : Nat → Bool} {p t : Nat} (h1 : mk' p = mk p) (h2 : gl' p = gl p) (h : t % 100 = 13 → pm' (t / 100) = pm (t / 100) ∧ mk' (t / 100) = mk (t / 100)) : sm_wk pm' mk' gl' p t = sm_wk pm mk gl p t := by
  unfold sm_wk
  rw [h1, h2]
  by_cases e : t % 100 = 13
  · rw [(h e).1, (h e).2]
  · rw [if_neg e, if_neg e]
theorem sm_extP {a b m : Nat} {r : Bool} (h : sm_PG 0 np nt pm vs mk gl fi tk xo xj ow hh kk dp pt hd) (hn : np < 8) (h1 : a ≤ 3) (h2 : a ≤ b) (h3 : b ≤ 8) (h4 : m < 2 ^ b) :
    sm_PG 1 (np + 1) nt (sm_u pm np a) (sm_u vs np b) (sm_u mk np m) (sm_u gl np r) (sm_u fi np nt) tk xo xj ow hh kk dp pt hd := by
  obtain ⟨z1, z2, z3⟩ := h.2.2.2.2.2.2.2.2.2.1 rfl
  refine ⟨⟨by omega, h.1.2⟩, Or.inr ⟨rfl, by omega⟩, fun i hi => ?_, fun i hi => ?_, h.2.2.2.2.1, h.2.2.2.2.2.1, h.2.2.2.2.2.2.1, fun i hi => ?_, fun q hq => ?_, fun e => absurd e (by decide), fun _ e2 => h.2.2.2.2.2.2.2.2.2.2.1 (Or.inl rfl) e2, fun _ k k1 k2 => ?_⟩
  · obtain ⟨a1, a2, a3, a4, a5, a6, a7⟩ := sm_PA h hi
    refine ⟨a1, a2, a3, a4, fun z => ?_, fun z => by have := a6 z; omega, by omega⟩
    rw [sm_un (by omega)]; exact a5 z
  · obtain ⟨a1, a2, a3, a4, a5, a6, a7⟩ := sm_PA h hi
    obtain ⟨b1, b2, b3, b4, b5, b6⟩ := sm_PB h hi
    have ep : sm_pop (sm_u pm np a) (tk i) = sm_pop pm (tk i) := sm_popc (fun z => sm_un (by have := a6 z; omega))
    have ek : sm_pk (sm_u mk np m) (sm_u gl np r) (ow i) (tk i) = sm_pk mk gl (ow i) (tk i) := sm_pkc (sm_un (by omega)) (fun z => sm_un (by have := a6 z; omega))
    have ew : sm_wk (sm_u pm np a) (sm_u mk np m) (sm_u gl np r) (ow i) (tk i) = sm_wk pm mk gl (ow i) (tk i) := sm_wkc (sm_un (by omega)) (sm_un (by omega)) (fun z => ⟨sm_un (by have := a6 z; omega), sm_un (by have := a6 z; omega)⟩)
    unfold sm_tB sm_ty sm_h2 sm_k2
    rw [ep, ek, ew]
    exact ⟨b1, b2, b3, b4, b5, b6⟩
  · obtain ⟨o1, o2, o3, o4⟩ := sm_PO h hi
    have ho := (sm_PA h hi).2.2.2.2.2.2
    unfold sm_tO
    rw [sm_un (show ow i ≠ np by omega)]
    refine ⟨o1, fun q q1 q2 => ?_, o3, o4⟩
    by_cases e : q = np
    · rw [e, sm_us]; exact hi
    · rw [sm_un e]; exact o2 q q1 (by omega)
  · unfold sm_pO
    by_cases e : q = np
    · subst e
      rw [sm_us, sm_us, sm_us, sm_us]
      exact ⟨h1, h2, h3, h4, Nat.le_refl _, z1, z2, z3, fun z => by omega, Or.inr ⟨rfl, rfl⟩⟩
    · rw [sm_un e, sm_un e, sm_un e, sm_un e]
      obtain ⟨a1, a2, a3, a4, a5, a6, a7, a8, a9, a10⟩ := sm_PQ h (show q < np by omega)
      refine ⟨a1, a2, a3, a4, a5, a6, a7, a8, a9, ?_⟩
      rcases a10 with z | z
      · exact Or.inl z
      · exact absurd z.1 (by decide)
  · rw [show np + 1 - 1 = np by omega, sm_us] at k1
    omega
/-- the counting loops of compile -/
theorem sm_xcm {post : Int32 → SX → Prop} (hP : sm_PG opn np nt pm vs mk gl fi tk xo xj ow hh kk dp pt hd) (h : post (nI (sm_cnt (sm_sp xo) nt)) (xle, xpe, nI cp, nI lm, sta, nI np, opn, nI nt, xch, xck, xbc, nI fr, nI sb, nI us, xcb, xcc, col, nI bo, nI oc, res, sm_n pm, sm_n vs, sm_n mk, sm_k gl, sm_n fi, sm_n tk, sm_n xo, sm_n (sm_ar tk), sm_n xj, sm_n ow, sm_n xh, sm_n xk, sm_n xl, xbk, xbp, xbh, sm_n fp, sm_n fa, sl, cn, cl, cr, sm_n cb, fw, ou)) : ∀ m i, i ≤ nt → nt - i < m → wX_compile_39 post xle xpe (nI cp) (nI lm) sta (nI np) opn (nI nt) xch xck xbc (nI fr) (nI sb) (nI us) xcb xcc col (nI bo) (nI oc) res (sm_n pm) (sm_n vs) (sm_n mk) (sm_k gl) (sm_n fi) (sm_n tk) (sm_n xo) (sm_n (sm_ar tk)) (sm_n xj) (sm_n ow) (sm_n xh) (sm_n xk) (sm_n xl) xbk xbp xbh (sm_n fp) (sm_n fa) sl cn cl cr (sm_n cb) fw ou m (nI (sm_cnt (sm_sp xo) i)) (nI i) := by
  have n160 := hP.1.2.1
  intro m
  induction m with
  | zero => intro i _ h; omega
  | succ m ih =>
    intro i hi hm
    refine pk_le nt i (fun z => ?_) (fun z => ?_)
    · have e : i = nt := by omega
      subst e
      exact h
    · have nx := ih (i + 1) (by omega) (by omega)
      have e : sm_cnt (sm_sp xo) (i + 1) = sm_cnt (sm_sp xo) i + (sm_sp xo i).toNat := rfl
      rw [e] at nx
      refine sm_xsp hP z (ek_if sm_bz (fun hb => nm_r (nI_1 i) ?_) (fun hb => nm_r (nI_1 _) (nm_r (nI_1 i) ?_)))
      · rw [hb] at nx; exact nx
      · have hb : sm_sp xo i = true := by
          cases h : sm_sp xo i
          · exact absurd h hb
          · rfl
        rw [hb] at nx; exact nx
theorem sm_ycm {post : Int32 → SY → Prop} (hP : sm_PG opn np nt pm vs mk gl fi tk xo xj ow hh kk dp pt hd) (h : post (nI (sm_cnt (sm_sp xo) nt)) (nI cp, nI lm, sta, nI np, opn, nI nt, yh, yd, nI fr, nI bo, col, nI oc, res, sm_n tk, sm_n fi, sm_n pm, sm_n vs, sm_n mk, sm_k gl, yt, yb, ys, yr, sm_n fp, sm_n fa, sm_n fh, lo, st, he, nu, lf, rg, ou)) : ∀ m i, i ≤ nt → nt - i < m → wY_compile_35 post (nI cp) (nI lm) sta (nI np) opn (nI nt) yh yd (nI fr) (nI bo) col (nI oc) res (sm_n tk) (sm_n fi) (sm_n pm) (sm_n vs) (sm_n mk) (sm_k gl) yt yb ys yr (sm_n fp) (sm_n fa) (sm_n fh) lo st he nu lf rg ou m (nI (sm_cnt (sm_sp xo) i)) (nI i) := by
  have n160 := hP.1.2.1
  intro m
  induction m with
  | zero => intro i _ h; omega
  | succ m ih =>
    intro i hi hm
    refine pk_le nt i (fun z => ?_) (fun z => ?_)
    · have e : i = nt := by omega
      subst e
      exact h
    · have nx := ih (i + 1) (by omega) (by omega)
      have e : sm_cnt (sm_sp xo) (i + 1) = sm_cnt (sm_sp xo) i + (sm_sp xo i).toNat := rfl
      rw [e] at nx
      refine sm_ysp hP z (ek_if sm_bz (fun hb => nm_r (nI_1 i) ?_) (fun hb => nm_r (nI_1 _) (nm_r (nI_1 i) ?_)))
      · rw [hb] at nx; exact nx
      · have hb : sm_sp xo i = true := by
          cases h : sm_sp xo i
          · exact absurd h hb
          · rfl
        rw [hb] at nx; exact nx
end
end
section
/-! the owed theorems: methods that store -/
section
theorem i_vc_proc {k : Nat} {u : SX} {v : SY} (I : i_Rel k u v) (hk : k + 5 ≤ 2562) (v1 : Int32) (v2 : Int32) (v3 : Int32) (v4 : Int32) : wpX_proc (fun r u' => wpY_proc (fun r' v' => r' = r ∧ i_Rel (k + 5) u' v') v v1 v2 v3 v4) u v1 v2 v3 v4 := by
  refine sm_el (P := fun u v => wpX_proc (fun r u' => wpY_proc (fun r' v' => r' = r ∧ i_Rel (k + 5) u' v') v v1 v2 v3 v4) u v1 v2 v3 v4) ?_ I
  intro xle xpe sta opn xch xck xbc xcb xcc col res yh yd cp lm np nt fr sb us bo oc pm vs mk fi tk xo xj ow xh xk xl fp fa fh cb gl xbk xbp xbh sl cn cl cr fw ou yt yb ys yr lo st he nu lf rg hh kk dp pt hd R
  have J : i_Rel (k + 5) (xle, xpe, nI cp, nI lm, sta, nI np, opn, nI nt, xch, xck, xbc, nI fr, nI sb, nI us, xcb, xcc, col, nI bo, nI oc, res, sm_n pm, sm_n vs, sm_n mk, sm_k gl, sm_n fi, sm_n tk, sm_n xo, sm_n (sm_ar tk), sm_n xj, sm_n ow, sm_n xh, sm_n xk, sm_n xl, xbk, xbp, xbh, sm_n fp, sm_n fa, sl, cn, cl, cr, sm_n cb, fw, ou) (nI cp, nI lm, sta, nI np, opn, nI nt, yh, yd, nI fr, nI bo, col, nI oc, res, sm_n tk, sm_n fi, sm_n pm, sm_n vs, sm_n mk, sm_k gl, yt, yb, ys, yr, sm_n fp, sm_n fa, sm_n fh, lo, st, he, nu, lf, rg, ou) := sm_in R
  by_cases hs : sta = 0
  rotate_left
  · exact br_f hs (br_f hs ⟨rfl, J⟩)
  by_cases ho : opn = 0
  rotate_left
  · exact br_t hs (br_f ho (br_t hs (br_f ho ⟨rfl, J⟩)))
  have n8 := R.2.2.1.1.1
  have n160 := R.2.2.1.1.2.1
  by_cases hn : np = 8
  · exact br_t hs (br_t ho (br_f (nI_nlt (b := 8) (by omega) (by omega)) (br_t hs (br_t ho (br_t (by rw [hn]; rfl) ⟨rfl, J⟩)))))
  have hn8 : np < 8 := by omega
  have xn : nI np < 8 := nI_lt (b := 8) hn8 (by decide)
  have yn : ¬ nI np = 8 := fun z => hn ((sm_eq8 (by omega)).mp z)
  refine br_t hs (br_t ho (br_t xn ?_))
  by_cases c1 : v1 < 0
  · exact br_t c1 (br_t hs (br_t ho (br_f yn (br_t c1 ⟨rfl, J⟩))))
  by_cases c2 : 3 < v1
  · exact br_f c1 (br_t c2 (br_t hs (br_t ho (br_f yn (br_f c1 (br_t c2 ⟨rfl, J⟩))))))
  by_cases c3 : v2 < v1
  · exact br_f c1 (br_f c2 (br_t c3 (br_t hs (br_t ho (br_f yn (br_f c1 (br_f c2 (br_t c3 ⟨rfl, J⟩))))))))
  by_cases c4 : v2 ≤ 8
  rotate_left
  · exact br_f c1 (br_f c2 (br_f c3 (br_f c4 (br_t hs (br_t ho (br_f yn (br_f c1 (br_f c2 (br_f c3 (br_f c4 ⟨rfl, J⟩))))))))))
  by_cases c5 : v3 < 0
  · exact br_f c1 (br_f c2 (br_f c3 (br_t c4 (br_t c5 (br_t hs (br_t ho (br_f yn (br_f c1 (br_f c2 (br_f c3 (br_t c4 (br_t c5 ⟨rfl, J⟩))))))))))))
  by_cases c6 : ((1 : Int32) <<< (v2 &&& 31)) - 1 < v3
  · exact br_f c1 (br_f c2 (br_f c3 (br_t c4 (br_f c5 (br_t c6 (br_t hs (br_t ho (br_f yn (br_f c1 (br_f c2 (br_f c3 (br_t c4 (br_f c5 (br_t c6 ⟨rfl, J⟩))))))))))))))
  by_cases c7 : v4 < 0
  · exact br_f c1 (br_f c2 (br_f c3 (br_t c4 (br_f c5 (br_f c6 (br_t c7 (br_t hs (br_t ho (br_f yn (br_f c1 (br_f c2 (br_f c3 (br_t c4 (br_f c5 (br_f c6 (br_t c7 ⟨rfl, J⟩))))))))))))))))
  by_cases c8 : v4 ≤ 1
  rotate_left
  · exact br_f c1 (br_f c2 (br_f c3 (br_t c4 (br_f c5 (br_f c6 (br_f c7 (br_f c8 (br_t hs (br_t ho (br_f yn (br_f c1 (br_f c2 (br_f c3 (br_t c4 (br_f c5 (br_f c6 (br_f c7 (br_f c8 ⟨rfl, J⟩))))))))))))))))))
  refine br_f c1 (br_f c2 (br_f c3 (br_t c4 (br_f c5 (br_f c6 (br_f c7 (br_t c8 ?_)))))))
  obtain ⟨a, a1, rfl⟩ := nI_of c1
  have a3 : a ≤ 3 := by
    rw [sm_gt3 a1] at c2
    omega
  have c30 : ¬ v2 < 0 := fun z => c3 (Int32.lt_of_lt_of_le z (nI_pos' (by omega)))
  obtain ⟨b, b1, rfl⟩ := nI_of c30
  rw [nI_ltI b1 a1] at c3
  rw [sm_le8 b1] at c4
  obtain ⟨m, m1, rfl⟩ := nI_of c5
  have p8 := sm_p8 c4
  have pp : 0 < 2 ^ b := Nat.two_pow_pos b
  rw [sm_msk (by omega), nI_ltI (by omega) m1] at c6
  obtain ⟨q, q1, rfl⟩ := nI_of c7
  rw [sm_le1 q1] at c8
  have eq : nI q = nI (decide (q = 1)).toNat := by
    have : q = 0 ∨ q = 1 := by omega
    rcases this with e | e <;> rw [e] <;> rfl
  obtain ⟨⟨l1, l2, l3⟩, hmk, hP, hxx, H, h0, h1, h2⟩ := R
  subst ho
  obtain ⟨hxl, _⟩ := h0 hs
  obtain ⟨z1, z2, z3⟩ := hP.2.2.2.2.2.2.2.2.2.1 rfl
  have hPG := sm_extP (a := a) (b := b) (m := m) (r := decide (q = 1)) hP hn8 a3 (by omega) c4 (by omega)
  have F := sm_in (k := k + 5) (xle := xle) (xpe := xpe) (sta := sta) (opn := 1) (xch := 0) (xck := 0) (xbc := 0) (xcb := xcb) (xcc := xcc) (col := col) (res := res) (yh := yh) (yd := yd) (cp := cp) (lm := lm) (np := np + 1) (nt := nt) (fr := fr) (sb := sb) (us := us) (bo := bo) (oc := oc) (pm := sm_u pm np a) (vs := sm_u vs np b) (mk := sm_u mk np m) (fi := sm_u fi np nt) (tk := tk) (xo := xo) (xj := xj) (ow := ow) (xh := xh) (xk := xk) (xl := xl) (fp := fp) (fa := fa) (fh := fh) (cb := cb) (gl := sm_u gl np (decide (q = 1))) (xbk := xbk) (xbp := xbp) (xbh := xbh) (sl := sl) (cn := cn) (cl := cl) (cr := cr) (fw := fw) (ou := ou) (yt := yt) (yb := yb) (ys := ys) (yr := yr) (lo := lo) (st := st) (he := he) (nu := nu) (lf := lf) (rg := rg) (hh := hh) (kk := kk) (dp := dp) (pt := pt) (hd := hd) ⟨⟨l1, l2, l3⟩, fun j => by
      by_cases e : j = np
      · rw [e, sm_us]; omega
      · rw [sm_un e]; exact hmk j, hPG, hxx, H, fun _ => ⟨hxl, fun _ => ⟨by rw [z2]; rfl, by rw [z3]; rfl, by rw [z1]; rfl, fun l hl => by rw [z1] at hl; omega⟩⟩, fun e => absurd hs e, fun e => by rw [hs] at e; exact absurd e (by decide)⟩
  have vn : vp_in (nI np) 8 := vp_in_nI hn8 (by decide)
  have cn1 : (nI np).toNatClampNeg = np := nI_clamp (by omega)
  have n1 : ¬ nI a < 0 := nI_pos a1
  have n2 : ¬ (3 : Int32) < nI a := fun z => by rw [sm_gt3 a1] at z; omega
  have n3 : ¬ nI b < nI a := fun z => by rw [nI_ltI b1 a1] at z; omega
  have n4 : nI b ≤ 8 := (sm_le8 b1).mpr c4
  have n5 : ¬ nI m < 0 := nI_pos m1
  have n6 : ¬ ((1 : Int32) <<< (nI b &&& 31)) - 1 < nI m := fun z => by rw [sm_msk (by omega), nI_ltI (by omega) m1] at z; omega
  have n7 : ¬ nI q < 0 := nI_pos q1
  have n8' : nI q ≤ 1 := (sm_le1 q1).mpr c8
  refine And.intro vn (nm_r (e' := sm_n (sm_u pm np a)) (by rw [cn1, sm_nu]) (And.intro vn (nm_r (e' := sm_n (sm_u vs np b)) (by rw [cn1, sm_nu]) (And.intro vn (nm_r (e' := sm_n (sm_u mk np m)) (by rw [cn1, sm_nu]) (And.intro vn (nm_r (e' := sm_k (sm_u gl np (decide (q = 1)))) (by rw [cn1, eq, sm_ku]) (And.intro vn (nm_r (e' := sm_n (sm_u fi np nt)) (by rw [cn1, sm_nu]) (nm_r (nI_1 np) ?_))))))))))
  refine br_t hs (br_t rfl (br_f yn (br_f n1 (br_f n2 (br_f n3 (br_t n4 (br_f n5 (br_f n6 (br_f n7 (br_t n8' ?_))))))))))
  refine And.intro vn (nm_r (e' := sm_n (sm_u pm np a)) (by rw [cn1, sm_nu]) (And.intro vn (nm_r (e' := sm_n (sm_u vs np b)) (by rw [cn1, sm_nu]) (And.intro vn (nm_r (e' := sm_n (sm_u mk np m)) (by rw [cn1, sm_nu]) (And.intro vn (nm_r (e' := sm_k (sm_u gl np (decide (q = 1)))) (by rw [cn1, eq, sm_ku]) (And.intro vn (nm_r (e' := sm_n (sm_u fi np nt)) (by rw [cn1, sm_nu]) (nm_r (nI_1 np) ⟨nI_pred np, F⟩))))))))))
theorem i_vc_feed {k : Nat} {u : SX} {v : SY} (I : i_Rel k u v) (hk : k + 5 ≤ 2562) (v1 : Int32) (v2 : Int32) (v3 : Int32) (v4 : Int32) : wpX_feed (fun r u' => wpY_feed (fun r' v' => r' = r ∧ i_Rel (k + 5) u' v') v v1 v2 v3 v4) u v1 v2 v3 v4 := by
  refine sm_el (P := fun u v => wpX_feed (fun r u' => wpY_feed (fun r' v' => r' = r ∧ i_Rel (k + 5) u' v') v v1 v2 v3 v4) u v1 v2 v3 v4) ?_ I
  intro xle xpe sta opn xch xck xbc xcb xcc col res yh yd cp lm np nt fr sb us bo oc pm vs mk fi tk xo xj ow xh xk xl fp fa fh cb gl xbk xbp xbh sl cn cl cr fw ou yt yb ys yr lo st he nu lf rg hh kk dp pt hd R
  have J : i_Rel (k + 5) (xle, xpe, nI cp, nI lm, sta, nI np, opn, nI nt, xch, xck, xbc, nI fr, nI sb, nI us, xcb, xcc, col, nI bo, nI oc, res, sm_n pm, sm_n vs, sm_n mk, sm_k gl, sm_n fi, sm_n tk, sm_n xo, sm_n (sm_ar tk), sm_n xj, sm_n ow, sm_n xh, sm_n xk, sm_n xl, xbk, xbp, xbh, sm_n fp, sm_n fa, sl, cn, cl, cr, sm_n cb, fw, ou) (nI cp, nI lm, sta, nI np, opn, nI nt, yh, yd, nI fr, nI bo, col, nI oc, res, sm_n tk, sm_n fi, sm_n pm, sm_n vs, sm_n mk, sm_k gl, yt, yb, ys, yr, sm_n fp, sm_n fa, sm_n fh, lo, st, he, nu, lf, rg, ou) := sm_in R
  by_cases hs : sta = 0
  rotate_left
  · exact br_f hs (br_f hs ⟨rfl, J⟩)
  obtain ⟨r, I⟩ := sm_f16 (a := v1) (b := v2) (c := v3) (d := v4) ys yr 4 0 0 (by omega) xle xpe sta opn xch xck xbc xcb xcc col res cp lm np nt fr sb us bo oc pm vs mk fi tk xo xj ow xh xk xl fp fa fh cb gl xbk xbp xbh sl cn cl cr fw ou lo st he nu lf rg hh kk dp pt hd R hs
  refine Exists.elim I fun xle2 I => Exists.elim I fun xpe2 I => Exists.elim I fun sta2 I => Exists.elim I fun opn2 I => Exists.elim I fun xch2 I => Exists.elim I fun xck2 I => Exists.elim I fun xbc2 I => Exists.elim I fun xcb2 I => Exists.elim I fun xcc2 I => Exists.elim I fun col2 I => Exists.elim I fun res2 I => Exists.elim I fun cp2 I => Exists.elim I fun lm2 I => Exists.elim I fun np2 I => Exists.elim I fun nt2 I => Exists.elim I fun fr2 I => Exists.elim I fun sb2 I => Exists.elim I fun us2 I => Exists.elim I fun bo2 I => Exists.elim I fun oc2 I => Exists.elim I fun pm2 I => Exists.elim I fun vs2 I => Exists.elim I fun mk2 I => Exists.elim I fun fi2 I => Exists.elim I fun tk2 I => Exists.elim I fun xo2 I => Exists.elim I fun xj2 I => Exists.elim I fun ow2 I => Exists.elim I fun xh2 I => Exists.elim I fun xk2 I => Exists.elim I fun xl2 I => Exists.elim I fun fp2 I => Exists.elim I fun fa2 I => Exists.elim I fun fh2 I => Exists.elim I fun cb2 I => Exists.elim I fun gl2 I => Exists.elim I fun xbk2 I => Exists.elim I fun xbp2 I => Exists.elim I fun xbh2 I => Exists.elim I fun sl2 I => Exists.elim I fun cn2 I => Exists.elim I fun cl2 I => Exists.elim I fun cr2 I => Exists.elim I fun fw2 I => Exists.elim I fun ou2 I => Exists.elim I fun lo2 I => Exists.elim I fun st2 I => Exists.elim I fun he2 I => Exists.elim I fun nu2 I => Exists.elim I fun lf2 I => Exists.elim I fun rg2 I => Exists.elim I fun hh2 I => Exists.elim I fun kk2 I => Exists.elim I fun dp2 I => Exists.elim I fun pt2 I => Exists.elim I fun hd2 I => ?_
  obtain ⟨R', hX, hY⟩ := I
  exact br_t hs ⟨5, hX _ (br_t hs ⟨5, hY _ (fun yh yd yt yb => ⟨rfl, sm_in R'⟩) yh yd yt yb⟩)⟩
theorem i_vc_compile {k : Nat} {u : SX} {v : SY} (I : i_Rel k u v) (hk : k + 5 ≤ 2562) : wpX_compile (fun r u' => wpY_compile (fun r' v' => r' = r ∧ i_Rel (k + 5) u' v') v) u := by
  refine sm_el (P := fun u v => wpX_compile (fun r u' => wpY_compile (fun r' v' => r' = r ∧ i_Rel (k + 5) u' v') v) u) ?_ I
  intro xle xpe sta opn xch xck xbc xcb xcc col res yh yd cp lm np nt fr sb us bo oc pm vs mk fi tk xo xj ow xh xk xl fp fa fh cb gl xbk xbp xbh sl cn cl cr fw ou yt yb ys yr lo st he nu lf rg hh kk dp pt hd R
  have J : i_Rel (k + 5) (xle, xpe, nI cp, nI lm, sta, nI np, opn, nI nt, xch, xck, xbc, nI fr, nI sb, nI us, xcb, xcc, col, nI bo, nI oc, res, sm_n pm, sm_n vs, sm_n mk, sm_k gl, sm_n fi, sm_n tk, sm_n xo, sm_n (sm_ar tk), sm_n xj, sm_n ow, sm_n xh, sm_n xk, sm_n xl, xbk, xbp, xbh, sm_n fp, sm_n fa, sl, cn, cl, cr, sm_n cb, fw, ou) (nI cp, nI lm, sta, nI np, opn, nI nt, yh, yd, nI fr, nI bo, col, nI oc, res, sm_n tk, sm_n fi, sm_n pm, sm_n vs, sm_n mk, sm_k gl, yt, yb, ys, yr, sm_n fp, sm_n fa, sm_n fh, lo, st, he, nu, lf, rg, ou) := sm_in R
  by_cases hs : sta = 0
  rotate_left
  · exact br_f hs (br_f hs ⟨rfl, J⟩)
  have n8 := R.2.2.1.1.1
  by_cases hn : np = 0
  · exact br_t hs (br_t (by rw [hn]; rfl) (br_t hs (br_t (by rw [hn]; rfl) ⟨rfl, J⟩)))
  have xn : ¬ nI np = 0 := nI_ne0 (by omega) (by omega)
  by_cases ho : opn = 0
  rotate_left
  · exact br_t hs (br_f xn (br_f ho (br_t hs (br_f xn (br_f ho ⟨rfl, J⟩)))))
  obtain ⟨⟨l1, l2, l3⟩, hmk, hP, hxx, H, h0, h1, h2⟩ := R
  subst ho
  obtain ⟨hxl, _⟩ := h0 hs
  refine br_t hs (br_f xn (br_t rfl (sm_xsl hP hxl (fun xl' hL => ⟨nt + 1, ?_⟩))))
  have F := sm_in (k := k + 5) (xle := xle) (xpe := xpe) (sta := 1) (opn := 0) (xch := xch) (xck := xck) (xbc := xbc) (xcb := xcb) (xcc := xcc) (col := col) (res := res) (yh := yh) (yd := yd) (cp := cp) (lm := lm) (np := np) (nt := nt) (fr := fr) (sb := sb) (us := us) (bo := bo) (oc := oc) (pm := pm) (vs := vs) (mk := mk) (fi := fi) (tk := tk) (xo := xo) (xj := xj) (ow := ow) (xh := xh) (xk := xk) (xl := xl') (fp := fp) (fa := fa) (fh := fh) (cb := cb) (gl := gl) (xbk := xbk) (xbp := xbp) (xbh := xbh) (sl := sl) (cn := cn) (cl := cl) (cr := cr) (fw := fw) (ou := ou) (yt := yt) (yb := yb) (ys := ys) (yr := yr) (lo := lo) (st := st) (he := he) (nu := nu) (lf := lf) (rg := rg) (hh := hh) (kk := kk) (dp := dp) (pt := pt) (hd := hd) ⟨⟨l1, l2, l3⟩, hmk, hP, hxx, H, fun e => absurd e (by decide), fun _ => ⟨rfl, by omega, hL⟩, fun e => absurd e (by decide)⟩
  have KY := sm_ycm (post := fun r' v' => r' = nI (sm_cnt (sm_sp xo) nt) ∧ i_Rel (k + 5) (xle, xpe, nI cp, nI lm, 1, nI np, 0, nI nt, xch, xck, xbc, nI fr, nI sb, nI us, xcb, xcc, col, nI bo, nI oc, res, sm_n pm, sm_n vs, sm_n mk, sm_k gl, sm_n fi, sm_n tk, sm_n xo, sm_n (sm_ar tk), sm_n xj, sm_n ow, sm_n xh, sm_n xk, sm_n xl', xbk, xbp, xbh, sm_n fp, sm_n fa, sl, cn, cl, cr, sm_n cb, fw, ou) v') (sta := 1) (opn := 0) hP ⟨rfl, F⟩ (nt + 1) 0 (by omega) (by omega)
  exact sm_xcm (xl := xl') (sta := 1) (opn := 0) hP (br_t hs (br_f xn (br_t rfl ⟨nt + 1, KY⟩))) (nt + 1) 0 (by omega) (by omega)
theorem i_vc_start {k : Nat} {u : SX} {v : SY} (I : i_Rel k u v) (hk : k + 5 ≤ 2562) (v1 : Int32) (v2 : Int32) (v3 : Int32) (v4 : Int32) : wpX_start (fun r u' => wpY_start (fun r' v' => r' = r ∧ i_Rel (k + 5) u' v') v v1 v2 v3 v4) u v1 v2 v3 v4 := by
  refine sm_el (P := fun u v => wpX_start (fun r u' => wpY_start (fun r' v' => r' = r ∧ i_Rel (k + 5) u' v') v v1 v2 v3 v4) u v1 v2 v3 v4) ?_ I
  intro xle xpe sta opn xch xck xbc xcb xcc col res yh yd cp lm np nt fr sb us bo oc pm vs mk fi tk xo xj ow xh xk xl fp fa fh cb gl xbk xbp xbh sl cn cl cr fw ou yt yb ys yr lo st he nu lf rg hh kk dp pt hd R
  have J : i_Rel (k + 5) (xle, xpe, nI cp, nI lm, sta, nI np, opn, nI nt, xch, xck, xbc, nI fr, nI sb, nI us, xcb, xcc, col, nI bo, nI oc, res, sm_n pm, sm_n vs, sm_n mk, sm_k gl, sm_n fi, sm_n tk, sm_n xo, sm_n (sm_ar tk), sm_n xj, sm_n ow, sm_n xh, sm_n xk, sm_n xl, xbk, xbp, xbh, sm_n fp, sm_n fa, sl, cn, cl, cr, sm_n cb, fw, ou) (nI cp, nI lm, sta, nI np, opn, nI nt, yh, yd, nI fr, nI bo, col, nI oc, res, sm_n tk, sm_n fi, sm_n pm, sm_n vs, sm_n mk, sm_k gl, yt, yb, ys, yr, sm_n fp, sm_n fa, sm_n fh, lo, st, he, nu, lf, rg, ou) := sm_in R
  by_cases hs : sta = 0
  · exact br_t hs (br_t hs ⟨rfl, J⟩)
  by_cases c1 : v1 < 0
  · exact br_f hs (br_t c1 (br_f hs (br_t c1 ⟨rfl, J⟩)))
  by_cases c2 : v1 < nI np
  rotate_left
  · exact br_f hs (br_f c1 (br_f c2 (br_f hs (br_f c1 (br_f c2 ⟨rfl, J⟩)))))
  obtain ⟨p, p1, rfl⟩ := nI_of c1
  have n8 := R.2.2.1.1.1
  rw [nI_ltI p1 (by omega)] at c2
  refine sm_OT2e (sm_start (xle := xle) (xpe := xpe) (xcb := xcb) (xcc := xcc) (col := col) (res := res) (fw := fw) (ou := ou) (x := v2) (y := v3) (z := v4) R hs c2) ?_
  intro xle2 xpe2 sta2 opn2 xch2 xck2 xbc2 xcb2 xcc2 col2 res2 cp2 lm2 np2 nt2 fr2 sb2 us2 bo2 oc2 pm2 vs2 mk2 fi2 tk2 xo2 xj2 ow2 xh2 xk2 xl2 fp2 fa2 fh2 cb2 gl2 xbk2 xbp2 xbh2 sl2 cn2 cl2 cr2 fw2 ou2 lo2 st2 he2 nu2 lf2 rg2 hh2 kk2 dp2 pt2 hd2 R' hX hY
  exact hX _ (hY _ (fun yh yd yt yb ys yr => ⟨rfl, sm_in R'⟩) yh yd yt yb ys yr)
theorem i_vc_run {k : Nat} {u : SX} {v : SY} (I : i_Rel k u v) (hk : k + 5 ≤ 2562) (v1 : Int32) : wpX_run (fun r u' => wpY_run (fun r' v' => r' = r ∧ i_Rel (k + 5) u' v') v v1) u v1 := by
  refine sm_el (P := fun u v => wpX_run (fun r u' => wpY_run (fun r' v' => r' = r ∧ i_Rel (k + 5) u' v') v v1) u v1) ?_ I
  intro xle xpe sta opn xch xck xbc xcb xcc col res yh yd cp lm np nt fr sb us bo oc pm vs mk fi tk xo xj ow xh xk xl fp fa fh cb gl xbk xbp xbh sl cn cl cr fw ou yt yb ys yr lo st he nu lf rg hh kk dp pt hd R
  have J : i_Rel (k + 5) (xle, xpe, nI cp, nI lm, sta, nI np, opn, nI nt, xch, xck, xbc, nI fr, nI sb, nI us, xcb, xcc, col, nI bo, nI oc, res, sm_n pm, sm_n vs, sm_n mk, sm_k gl, sm_n fi, sm_n tk, sm_n xo, sm_n (sm_ar tk), sm_n xj, sm_n ow, sm_n xh, sm_n xk, sm_n xl, xbk, xbp, xbh, sm_n fp, sm_n fa, sl, cn, cl, cr, sm_n cb, fw, ou) (nI cp, nI lm, sta, nI np, opn, nI nt, yh, yd, nI fr, nI bo, col, nI oc, res, sm_n tk, sm_n fi, sm_n pm, sm_n vs, sm_n mk, sm_k gl, yt, yb, ys, yr, sm_n fp, sm_n fa, sm_n fh, lo, st, he, nu, lf, rg, ou) := sm_in R
  by_cases hs : sta = 2
  rotate_left
  · exact br_f hs (br_f hs ⟨rfl, J⟩)
  have fin : ∃ T, T ≤ 16 ∧ (∀ post : Int32 → SX → Prop, (∃ n34, wX_run_34 post (nI T) n34 0 xle xpe (nI cp) (nI lm) sta (nI np) opn (nI nt) xch xck xbc (nI fr) (nI sb) (nI us) xcb xcc col (nI bo) (nI oc) res (sm_n pm) (sm_n vs) (sm_n mk) (sm_k gl) (sm_n fi) (sm_n tk) (sm_n xo) (sm_n (sm_ar tk)) (sm_n xj) (sm_n ow) (sm_n xh) (sm_n xk) (sm_n xl) xbk xbp xbh (sm_n fp) (sm_n fa) sl cn cl cr (sm_n cb) fw ou) → wpX_run post (xle, xpe, nI cp, nI lm, sta, nI np, opn, nI nt, xch, xck, xbc, nI fr, nI sb, nI us, xcb, xcc, col, nI bo, nI oc, res, sm_n pm, sm_n vs, sm_n mk, sm_k gl, sm_n fi, sm_n tk, sm_n xo, sm_n (sm_ar tk), sm_n xj, sm_n ow, sm_n xh, sm_n xk, sm_n xl, xbk, xbp, xbh, sm_n fp, sm_n fa, sl, cn, cl, cr, sm_n cb, fw, ou) v1) ∧ (∀ post : Int32 → SY → Prop, (∃ n34, wY_run_34 post (nI T) n34 0 (nI cp) (nI lm) sta (nI np) opn (nI nt) yh yd (nI fr) (nI bo) col (nI oc) res (sm_n tk) (sm_n fi) (sm_n pm) (sm_n vs) (sm_n mk) (sm_k gl) yt yb ys yr (sm_n fp) (sm_n fa) (sm_n fh) lo st he nu lf rg ou) → wpY_run post (nI cp, nI lm, sta, nI np, opn, nI nt, yh, yd, nI fr, nI bo, col, nI oc, res, sm_n tk, sm_n fi, sm_n pm, sm_n vs, sm_n mk, sm_k gl, yt, yb, ys, yr, sm_n fp, sm_n fa, sm_n fh, lo, st, he, nu, lf, rg, ou) v1) := by
    by_cases c1 : 1 ≤ v1
    · by_cases c2 : v1 ≤ 16
      · obtain ⟨T, T1, T2⟩ := nI_of2 (M := 16) (n := 16) (by decide) (fun z => by
          have a := Int32.le_iff_toInt_le.mp c1
          have b := Int32.lt_iff_toInt_lt.mp z
          rw [show (1 : Int32).toInt = 1 by decide] at a
          rw [show (0 : Int32).toInt = 0 by decide] at b
          omega) c2
        refine ⟨T, T1, fun post h => br_t hs (br_t c1 (br_t c2 ?_)), fun post h => br_t hs (br_t c1 (br_t c2 ?_))⟩
        · rw [T2]; exact h
        · rw [T2]; exact h
      · exact ⟨16, by omega, fun post h => br_t hs (br_t c1 (br_f c2 h)), fun post h => br_t hs (br_t c1 (br_f c2 h))⟩
    · exact ⟨1, by omega, fun post h => br_t hs (br_f c1 h), fun post h => br_t hs (br_f c1 h)⟩
  obtain ⟨T, T1, fX, fY⟩ := fin
  refine sm_OT2e (sm_run T1 T 0 (by omega) xle xpe sta opn xch xck xbc xcb xcc col res cp lm np nt fr sb us bo oc pm vs mk fi tk xo xj ow xh xk xl fp fa fh cb gl xbk xbp xbh sl cn cl cr fw ou lo st he nu lf rg hh kk dp pt hd R) ?_
  intro xle2 xpe2 sta2 opn2 xch2 xck2 xbc2 xcb2 xcc2 col2 res2 cp2 lm2 np2 nt2 fr2 sb2 us2 bo2 oc2 pm2 vs2 mk2 fi2 tk2 xo2 xj2 ow2 xh2 xk2 xl2 fp2 fa2 fh2 cb2 gl2 xbk2 xbp2 xbh2 sl2 cn2 cl2 cr2 fw2 ou2 lo2 st2 he2 nu2 lf2 rg2 hh2 kk2 dp2 pt2 hd2 R' hX hY
  exact fX _ ⟨T + 1, hX _ (fY _ ⟨T + 1, hY _ (fun yh yd yt yb ys yr => ⟨rfl, sm_in R'⟩) yh yd yt yb ys yr⟩)⟩
end
end
section
/-! the readers -/
section
variable {xle xpe sta opn xch xck xbc xcb xcc col res yh yd : Int32} {cp lm np nt fr sb us bo oc : Nat} {pm vs mk fi tk xo xj ow xh xk xl fp fa fh cb : Nat → Nat} {gl : Nat → Bool} {xbk xbp xbh sl cn cl cr fw ou yt yb ys yr lo st he nu lf rg : Nat → Int32} {hh kk dp : Nat → Nat} {pt hd : Nat → Nat → Nat}
variable {f s b i : Nat}
/-- addressOf -/
theorem sm_xad {post : Int32 → Prop} (hu : us ≤ 16) (hsb : sb ≤ 16) (hb1 : 1 ≤ b) (hb : b ≤ 120) (hcb : ∀ c, c < us → cb (sb + 1 + c) ≤ 120) (hi : ∀ c d, c < us → d < us → cb (sb + 1 + c) = cb (sb + 1 + d) → c = d)
    (h1 : ∀ c, c < us → cb (sb + 1 + c) = b → post (nI (sb + 1 + c))) (h0 : (∀ c, c < us → cb (sb + 1 + c) ≠ b) → post 0) : wpX_addressOf post (xle, xpe, nI cp, nI lm, sta, nI np, opn, nI nt, xch, xck, xbc, nI fr, nI sb, nI us, xcb, xcc, col, nI bo, nI oc, res, sm_n pm, sm_n vs, sm_n mk, sm_k gl, sm_n fi, sm_n tk, sm_n xo, sm_n (sm_ar tk), sm_n xj, sm_n ow, sm_n xh, sm_n xk, sm_n xl, xbk, xbp, xbh, sm_n fp, sm_n fa, sl, cn, cl, cr, sm_n cb, fw, ou) (nI b) := by
  have L : ∀ m c, c ≤ us → us - c < m → (∀ d, d < c → cb (sb + 1 + d) ≠ b) → wX_addressOf_2 post (nI b) xle xpe (nI cp) (nI lm) sta (nI np) opn (nI nt) xch xck xbc (nI fr) (nI sb) (nI us) xcb xcc col (nI bo) (nI oc) res (sm_n pm) (sm_n vs) (sm_n mk) (sm_k gl) (sm_n fi) (sm_n tk) (sm_n xo) (sm_n (sm_ar tk)) (sm_n xj) (sm_n ow) (sm_n xh) (sm_n xk) (sm_n xl) xbk xbp xbh (sm_n fp) (sm_n fa) sl cn cl cr (sm_n cb) fw ou m (nI (c + 1)) := by
    intro m
    induction m with
    | zero => intro c _ h; omega
    | succ m ih =>
      intro c hc hm hn
      refine pk_lt us (c + 1) (fun z => h0 (fun d hd => hn d (by omega))) (fun z => ?_)
      have ea : nI sb + nI (c + 1) = nI (sb + 1 + c) := by rw [nI_add]; congr 1; omega
      rw [ea, nI_clamp (show sb + 1 + c < 2 ^ 31 by omega), sm_nap]
      have hc1 := hcb c (by omega)
      refine And.intro (vp_in_nI (by omega) (by decide)) (pk_eq (cb (sb + 1 + c)) b (fun e => h1 c (by omega) e) (fun e => nm_r (nI_1 (c + 1)) (ih (c + 1) (by omega) (by omega) (fun d hd => ?_))))
      by_cases ed : d = c
      · rw [ed]; exact e
      · exact hn d (by omega)
  exact ⟨us + 1, L (us + 1) 0 (by omega) (by omega) (fun d hd => by omega)⟩
/-- slotKind -/
def sm_skv (vs mk kk xl fp fa fh : Nat → Nat) (f s : Nat) : Nat :=
  if s < 8 then (if s < vs (fp f) then (if (xl (fa f)).testBit s = true then 2 + ((mk (fp f)).testBit s).toNat else 1) else 0) else if s - 8 < fh f then 2 + ((kk (fa f)).testBit (s - 8)).toNat else 0
theorem sm_xsk {post : Int32 → Prop} (hP : sm_PG 0 np nt pm vs mk gl fi tk xo xj ow hh kk dp pt hd) (hL : sm_LV nt tk xo xj xl) (hxx : ∀ i, i < nt → xh i = hh i ∧ xk i = kk i) (hmk : ∀ q, mk q < 256) (h8 : fr ≤ 8) (hf : f < fr) (hs : s < 2 ^ 31) (hF : sm_FR np nt fr us sb pm vs mk tk ow hh kk xl fp fa fh cb sl lo st f)
    (h : post (nI (sm_skv vs mk kk xl fp fa fh f s))) : wpX_slotKind post (xle, xpe, nI cp, nI lm, 2, nI np, opn, nI nt, xch, xck, xbc, nI fr, nI sb, nI us, xcb, xcc, col, nI bo, nI oc, res, sm_n pm, sm_n vs, sm_n mk, sm_k gl, sm_n fi, sm_n tk, sm_n xo, sm_n (sm_ar tk), sm_n xj, sm_n ow, sm_n xh, sm_n xk, sm_n xl, xbk, xbp, xbh, sm_n fp, sm_n fa, sl, cn, cl, cr, sm_n cb, fw, ou) (nI f) (nI s) := by
  have n160 := hP.1.2.1
  have n8 := hP.1.1
  have h88 := sm_fh8 hP hf hF
  obtain ⟨⟨f1, f2, f3⟩, _⟩ := id hF
  have hkb := sm_PH hP (show fa f ≤ nt by omega)
  have hk8 : kk (fa f) < 256 := Nat.lt_of_lt_of_le hkb.2 (sm_p8 hkb.1)
  have hxl := (hL _ f2).1
  have hm := hmk (fp f)
  have vf : vp_in (nI f) 8 := vp_in_nI (by omega) (by decide)
  have cf : (nI f).toNatClampNeg = f := nI_clamp (by omega)
  have va : vp_in (nI (fa f)) 160 := vp_in_nI (by omega) (by decide)
  have ca : (nI (fa f)).toNatClampNeg = fa f := nI_clamp (by omega)
  have vp : vp_in (nI (fp f)) 8 := vp_in_nI (by omega) (by decide)
  have cpp : (nI (fp f)).toNatClampNeg = fp f := nI_clamp (by omega)
  unfold sm_skv at h
  refine br_t rfl (br_f (nI_pos (by omega)) (br_f (nI_ge hf (by omega)) (br_f (nI_pos hs) (pk_le s 15 (fun s15 => ?_) (fun s15 => ?_)))))
  rotate_left
  · rw [if_neg (by omega), if_neg (by omega)] at h
    exact h
  refine And.intro vf (nm_r (e' := nI (fa f)) (by rw [cf, sm_nap]) (And.intro vf (nm_r (e' := nI (fp f)) (by rw [cf, sm_nap]) (pk_le 8 s (fun z => nm_r (sm_sb8 z) (sm_xoc hP hxx h8 hf (sm_FSi hF) ?_)) (fun z => And.intro vp ?_)))))
  · rw [if_neg (by omega)] at h
    refine pk_lt (s - 8) (fh f) (fun y => ?_) (fun y => ?_)
    · rw [if_pos y] at h
      rw [ca, sm_nap, (hxx _ f2).2, sm_bit (by omega) (by omega)]
      refine And.intro va (ek_if sm_bo (fun e => ?_) (fun e => ?_))
      · rw [e] at h; exact h
      · have e : (kk (fa f)).testBit (s - 8) = false := by
          cases w : (kk (fa f)).testBit (s - 8)
          · rfl
          · exact absurd w e
        rw [e] at h; exact h
    · rw [if_neg (by omega)] at h; exact h
  · rw [if_pos z] at h
    rw [cpp, sm_nap]
    refine pk_lt s (vs (fp f)) (fun y => ?_) (fun y => ?_)
    · rw [if_pos y] at h
      rw [ca, sm_nap, sm_bit (by omega) (by omega), sm_nap, sm_bit (by omega) (by omega)]
      refine And.intro va (ek_if sm_bz (fun e => ?_) (fun e => And.intro vp (ek_if sm_bo (fun e2 => ?_) (fun e2 => ?_))))
      · rw [if_neg (by rw [e]; decide)] at h; exact h
      · rw [if_pos (by
          cases w : (xl (fa f)).testBit s
          · exact absurd w e
          · rfl), e2] at h
        exact h
      · have e3 : (mk (fp f)).testBit s = false := by
          cases w : (mk (fp f)).testBit s
          · rfl
          · exact absurd w e2
        rw [if_pos (by
          cases w : (xl (fa f)).testBit s
          · exact absurd w e
          · rfl), e3] at h
        exact h
    · rw [if_neg (by omega)] at h; exact h
theorem sm_own (hP : sm_PG 0 np nt pm vs mk gl fi tk xo xj ow hh kk dp pt hd) (hi : i < nt) : fi (ow i) ≤ i ∧ ∀ k, fi (ow i) ≤ k → k < i → ow k = ow i := by
  have ho := sm_PO hP hi
  refine ⟨ho.1, fun k k1 k2 => ?_⟩
  exact (sm_owc hP (a := k) i (by omega) hi (fun q q1 q2 => ho.2.2.2 q (by omega) q2)).symm
theorem sm_ysk2 {post : Int32 → SY → Prop} (hP : sm_PG 0 np nt pm vs mk gl fi tk xo xj ow hh kk dp pt hd) (hL : sm_LV nt tk xo xj xl) (hmk : ∀ q, mk q < 256) (h8 : fr ≤ 8) (hf : f < fr) (hs : s < 2 ^ 31) (hF : sm_FR np nt fr us sb pm vs mk tk ow hh kk xl fp fa fh cb sl lo st f)
    (h : ∀ (yh yd : Int32) (yt yb ys yr : Nat → Int32), post (nI (sm_skv vs mk kk xl fp fa fh f s)) (nI cp, nI lm, 2, nI np, opn, nI nt, yh, yd, nI fr, nI bo, col, nI oc, res, sm_n tk, sm_n fi, sm_n pm, sm_n vs, sm_n mk, sm_k gl, yt, yb, ys, yr, sm_n fp, sm_n fa, sm_n fh, lo, st, he, nu, lf, rg, ou)) : wpY_slotKind post (nI cp, nI lm, 2, nI np, opn, nI nt, yh, yd, nI fr, nI bo, col, nI oc, res, sm_n tk, sm_n fi, sm_n pm, sm_n vs, sm_n mk, sm_k gl, yt, yb, ys, yr, sm_n fp, sm_n fa, sm_n fh, lo, st, he, nu, lf, rg, ou) (nI f) (nI s) := by
  have n160 := hP.1.2.1
  have n8 := hP.1.1
  have h88 := sm_fh8 hP hf hF
  obtain ⟨⟨f1, f2, f3⟩, fx, fy, _⟩ := id hF
  have hm := hmk (fp f)
  have vf : vp_in (nI f) 8 := vp_in_nI (by omega) (by decide)
  have cf : (nI f).toNatClampNeg = f := nI_clamp (by omega)
  have vp : vp_in (nI (fp f)) 8 := vp_in_nI (by omega) (by decide)
  have cpp : (nI (fp f)).toNatClampNeg = fp f := nI_clamp (by omega)
  have hle : fh f ≤ hh (fa f) := by
    by_cases e : f + 1 = fr
    · rw [fx e]; exact Nat.le_refl _
    · have := (fy (by omega)).2.1
      omega
  unfold sm_skv at h
  refine br_t rfl (br_f (nI_pos (by omega)) (br_f (nI_ge hf (by omega)) (br_t (nI_pos' hs) (And.intro vf (nm_r (e' := nI (fp f)) (by rw [cf, sm_nap]) (And.intro vp ?_))))))
  rw [cpp, sm_nap, cf, sm_nap, sm_nap]
  refine pk_le (vs (fp f)) s (fun z => pk_lt s 8 (fun y => ?_) (fun y => And.intro vf ?_)) (fun z => And.intro vf (sm_ylive hP f2 (by omega) (fun hl ys => ?_) (fun hl ys => ?_)))
  · have h := h yh yd yt yb ys yr
    rw [if_pos y, if_neg (by omega)] at h
    exact h
  · rw [sm_sb8 y]
    refine pk_lt (s - 8) (fh f) (fun w => And.intro vf ?_) (fun w => ?_)
    · have hown := sm_own hP f2
      rw [f3] at hown
      refine sm_ywalk hP f1 (by omega) hown.1 hown.2 (fun yt' yb' htt hbk => ?_)
      dsimp only
      rw [nI_clamp (show s - 8 < 2 ^ 31 by omega), htt _ (by omega), sm_da2]
      refine And.intro (vp_in_nI (by omega) (by decide)) ?_
      have h := h (nI (hh (fa f))) (nI (dp (fa f))) yt' yb' ys yr
      rw [if_neg (by omega), if_pos w] at h
      exact h
    · have h := h yh yd yt yb ys yr
      rw [if_neg (by omega), if_neg (by omega)] at h
      exact h
  · have h := h yh yd yt yb ys yr
    rw [if_pos (show s < 8 by omega), if_pos z, if_pos (((hL _ f2).2 s (by omega)).mpr hl)] at h
    refine br_f sm_10 (And.intro vp ?_)
    rw [sm_nap, sm_bit (by omega) (by omega), sm_da2]
    exact h
  · have h := h yh yd yt yb ys yr
    rw [if_pos (show s < 8 by omega), if_pos z, if_neg (fun w => hl (((hL _ f2).2 s (by omega)).mp w))] at h
    exact br_t rfl h
/-- the bits of map -/
theorem sm_md {M v : Nat} : (M.testBit v = true → M % 2 ^ v ||| 2 ^ v = M % 2 ^ (v + 1)) ∧ (M.testBit v = false → M % 2 ^ v = M % 2 ^ (v + 1)) := by
  refine ⟨fun h => Nat.eq_of_testBit_eq (fun q => ?_), fun h => Nat.eq_of_testBit_eq (fun q => ?_)⟩
  · rw [Nat.testBit_or, Nat.testBit_mod_two_pow, Nat.testBit_mod_two_pow, Nat.testBit_two_pow]
    by_cases e : v = q
    · subst e; simp [h]
    · by_cases l : q < v
      · simp [e, l, show q < v + 1 by omega]
      · simp [e, l, show ¬ q < v + 1 by omega]
  · rw [Nat.testBit_mod_two_pow, Nat.testBit_mod_two_pow]
    by_cases e : v = q
    · subst e; simp [h]
    · by_cases l : q < v
      · simp [l, show q < v + 1 by omega]
      · simp [l, show ¬ q < v + 1 by omega]
theorem sm_ym98 {post : Int32 → SY → Prop} {M K h : Nat} (hM : M < 256) (h8 : h ≤ 8) (hK : K < 2 ^ h) (htt : ∀ q, q < h → yt q = nI (K.testBit q).toNat) (hp : post (nI (M ||| K * 256)) (nI cp, nI lm, sta, nI np, opn, nI nt, nI h, yd, nI fr, nI bo, col, nI oc, res, sm_n tk, sm_n fi, sm_n pm, sm_n vs, sm_n mk, sm_k gl, yt, yb, ys, yr, sm_n fp, sm_n fa, sm_n fh, lo, st, he, nu, lf, rg, ou)) :
    ∀ m j, j ≤ h → h - j < m → wY_map_98 post (nI cp) (nI lm) sta (nI np) opn (nI nt) (nI h) yd (nI fr) (nI bo) col (nI oc) res (sm_n tk) (sm_n fi) (sm_n pm) (sm_n vs) (sm_n mk) (sm_k gl) yt yb ys yr (sm_n fp) (sm_n fa) (sm_n fh) lo st he nu lf rg ou m (nI (M ||| K % 2 ^ j * 256)) (nI j) := by
  intro m
  induction m with
  | zero => intro j _ h; omega
  | succ m ih =>
    intro j hj hm
    refine pk_le h j (fun z => ?_) (fun z => ?_)
    · have e : j = h := by omega
      subst e
      rw [Nat.mod_eq_of_lt hK]
      exact hp
    · have nx := ih (j + 1) (by omega) (by omega)
      rw [nI_clamp (show j < 2 ^ 31 by omega), htt j z, sm_da8, sm_one (show 8 + j < 31 by omega), sm_or]
      refine And.intro (vp_in_nI (by omega) (by decide)) (ek_if sm_bo (fun e => nm_r (e' := nI (M ||| K % 2 ^ (j + 1) * 256)) ?_ (nm_r (nI_1 j) nx)) (fun e => nm_r (nI_1 j) ?_))
      · rw [← sm_md.1 e]
        congr 1
        rw [Nat.or_assoc]
        congr 1
        refine Nat.eq_of_testBit_eq (fun q => ?_)
        rw [Nat.testBit_or, sm_m8, sm_m8, Nat.testBit_or, Nat.testBit_two_pow, Nat.testBit_two_pow]
        by_cases l : 8 ≤ q
        · rw [decide_eq_true l, Bool.true_and, Bool.true_and]
          congr 1
          by_cases e2 : j = q - 8
          · rw [decide_eq_true e2, decide_eq_true (by omega)]
          · rw [decide_eq_false e2, decide_eq_false (by omega)]
        · rw [decide_eq_false l, decide_eq_false (show ¬ 8 + j = q by omega)]
          rfl
      · have e : K.testBit j = false := by
          cases w : K.testBit j
          · rfl
          · exact absurd w e
        rw [sm_md.2 e]
        exact nx
theorem sm_ym40' {post : Int32 → SY → Prop} (hP : sm_PG 0 np nt pm vs mk gl fi tk xo xj ow hh kk dp pt hd) (hL : sm_LV nt tk xo xj xl) (hmk : ∀ q, mk q < 256) (hi : i < nt) (hp : ∀ (yh yd : Int32) (yt yb ys yr : Nat → Int32), post (nI ((xl i &&& mk (ow i)) ||| kk i * 256)) (nI cp, nI lm, sta, nI np, opn, nI nt, yh, yd, nI fr, nI bo, col, nI oc, res, sm_n tk, sm_n fi, sm_n pm, sm_n vs, sm_n mk, sm_k gl, yt, yb, ys, yr, sm_n fp, sm_n fa, sm_n fh, lo, st, he, nu, lf, rg, ou)) :
    ∀ m v (yh yd : Int32) (yt yb ys yr : Nat → Int32), v ≤ vs (ow i) → vs (ow i) - v < m → wY_map_40 post (nI i) (nI (ow i)) m (nI ((xl i &&& mk (ow i)) % 2 ^ v)) (nI v) (nI cp) (nI lm) sta (nI np) opn (nI nt) yh yd (nI fr) (nI bo) col (nI oc) res (sm_n tk) (sm_n fi) (sm_n pm) (sm_n vs) (sm_n mk) (sm_k gl) yt yb ys yr (sm_n fp) (sm_n fa) (sm_n fh) lo st he nu lf rg ou := by
  have n160 := hP.1.2.1
  have n8 := hP.1.1
  have ho := (sm_PA hP hi).2.2.2.2.2.2
  obtain ⟨q1, q2, q3, q4, _⟩ := sm_PQ hP ho
  have vp : vp_in (nI (ow i)) 8 := vp_in_nI (by omega) (by decide)
  have cpp : (nI (ow i)).toNatClampNeg = ow i := nI_clamp (by omega)
  have hm := hmk (ow i)
  have hkb := sm_PH hP (show i ≤ nt by omega)
  have hM : xl i &&& mk (ow i) < 256 := Nat.lt_of_le_of_lt Nat.and_le_left (hL i hi).1
  have hMv : xl i &&& mk (ow i) < 2 ^ vs (ow i) := Nat.lt_of_le_of_lt Nat.and_le_right q4
  intro m
  induction m with
  | zero => intro v yh yd yt yb ys yr _ h; omega
  | succ m ih =>
    intro v yh yd yt yb ys yr hv hm2
    unfold wY_map_40
    rw [cpp, sm_nap, sm_nap]
    refine And.intro vp (pk_le (vs (ow i)) v (fun z => ?_) (fun z => And.intro vp ?_))
    · have e : v = vs (ow i) := by omega
      subst e
      rw [Nat.mod_eq_of_lt hMv]
      have hown := sm_own hP hi
      refine sm_ywalk hP ho (by omega) hown.1 hown.2 (fun yt' yb' htt hbk => ?_)
      dsimp only
      refine ⟨hh i + 1, ?_⟩
      have k := sm_ym98 (post := post) (yt := yt') (yb := yb') (yd := nI (dp i)) (ys := ys) (yr := yr) hM hkb.1 hkb.2 htt (hp _ _ _ _ _ _) (hh i + 1) 0 (by omega) (by omega)
      rw [show (2 : Nat) ^ 0 = 1 from rfl, Nat.mod_one, Nat.zero_mul, Nat.or_zero] at k
      exact k
    · have nx := fun yh yd yt yb ys yr => ih (v + 1) yh yd yt yb ys yr (by omega) (by omega)
      rw [sm_bit (by omega) (by omega)]
      refine ek_if sm_bo (fun e => sm_ylive hP hi (by omega) (fun hl ys => br_f sm_10 ?_) (fun hl ys => br_t rfl (nm_r (nI_1 v) ?_))) (fun e => nm_r (nI_1 v) ?_)
      · have hb : (xl i &&& mk (ow i)).testBit v = true := by
          rw [Nat.testBit_and, e, ((hL i hi).2 v (by omega)).mpr hl]
          rfl
        refine nm_r (e' := nI ((xl i &&& mk (ow i)) % 2 ^ (v + 1))) ?_ (nm_r (nI_1 v) (nx _ _ _ _ _ _))
        rw [sm_one (by omega), sm_or, sm_md.1 hb]
      · have hb : (xl i &&& mk (ow i)).testBit v = false := by
          rw [Nat.testBit_and]
          cases w : (xl i).testBit v
          · rfl
          · exact absurd (((hL i hi).2 v (by omega)).mp w) hl
        rw [sm_md.2 hb]
        exact nx _ _ _ _ _ _
      · have hb : (xl i &&& mk (ow i)).testBit v = false := by
          rw [Nat.testBit_and]
          cases w : (mk (ow i)).testBit v
          · rw [Bool.and_false]
          · exact absurd w e
        rw [sm_md.2 hb]
        exact nx _ _ _ _ _ _
end
end
section
/-! the owed theorems: collect and the readers -/
section
theorem i_vc_collect {k : Nat} {u : SX} {v : SY} (I : i_Rel k u v) (hk : k + 5 ≤ 2562) : wpX_collect (fun r u' => wpY_collect (fun r' v' => r' = r ∧ i_Rel (k + 5) u' v') v) u := by
  refine sm_el (P := fun u v => wpX_collect (fun r u' => wpY_collect (fun r' v' => r' = r ∧ i_Rel (k + 5) u' v') v) u) ?_ I
  intro xle xpe sta opn xch xck xbc xcb xcc col res yh yd cp lm np nt fr sb us bo oc pm vs mk fi tk xo xj ow xh xk xl fp fa fh cb gl xbk xbp xbh sl cn cl cr fw ou yt yb ys yr lo st he nu lf rg hh kk dp pt hd R
  have J : i_Rel (k + 5) (xle, xpe, nI cp, nI lm, sta, nI np, opn, nI nt, xch, xck, xbc, nI fr, nI sb, nI us, xcb, xcc, col, nI bo, nI oc, res, sm_n pm, sm_n vs, sm_n mk, sm_k gl, sm_n fi, sm_n tk, sm_n xo, sm_n (sm_ar tk), sm_n xj, sm_n ow, sm_n xh, sm_n xk, sm_n xl, xbk, xbp, xbh, sm_n fp, sm_n fa, sl, cn, cl, cr, sm_n cb, fw, ou) (nI cp, nI lm, sta, nI np, opn, nI nt, yh, yd, nI fr, nI bo, col, nI oc, res, sm_n tk, sm_n fi, sm_n pm, sm_n vs, sm_n mk, sm_k gl, yt, yb, ys, yr, sm_n fp, sm_n fa, sm_n fh, lo, st, he, nu, lf, rg, ou) := sm_in R
  by_cases hs : sta = 2
  rotate_left
  · exact br_f hs (br_f hs ⟨rfl, J⟩)
  obtain ⟨⟨l1, l2, l3⟩, hmk, hP, hxx, H, h0, h1, h2⟩ := id R
  subst hs
  obtain ⟨rfl, n1, hL⟩ := h1 (by decide)
  obtain ⟨r1, r2, hF⟩ := h2 rfl
  have n8 := hP.1.1
  have n160 := hP.1.2.1
  have hxl : ∀ i, i < nt → xl i < 256 := fun i hi => (hL i hi).1
  obtain ⟨⟨p1, p2, p3, p4, psb⟩, q1, q2, q3⟩ := id H
  obtain ⟨cc, src, cb', fw', cn', cl', cr', sl', G, WX⟩ := sm_xgc (xle := xle) (xpe := xpe) (lm := lm) (sta := 2) (opn := 0) (xch := xch) (xck := xck) (xbc := xbc) (xcb := xcb) (xcc := xcc) (col := col) (oc := oc) (res := res) (xbk := xbk) (xbp := xbp) (xbh := xbh) (fw := fw) (ou := ou) hP hxx hxl (show fr ≤ 8 by omega) H hF
  obtain ⟨HG, hcc, hcu⟩ := sm_gcB H G
  have RG : sm_RN np nt fr cc (16 - sb) lm pm vs mk tk ow hh kk xl fp fa fh cb' sl' lo st := ⟨r1, r2, fun g hg => sm_gcF (by omega) (by omega) hP G hg (hF g hg)⟩
  have R' : sm_REL 2 0 xch xck xbc cp lm np nt fr (16 - sb) cc bo oc pm vs mk fi tk xo xj ow xh xk xl fp fa fh cb' gl xbk xbp xbh sl' cn' cl' cr' lo st (sm_hq (sm_Q (sm_RX fr us sb mk kk xl fp fa fh sl cl cr) us sb cb) bo he) nu lf rg hh kk dp pt hd := ⟨⟨l1, l2, l3⟩, hmk, hP, hxx, HG, fun z => absurd z (by decide), fun _ => ⟨rfl, n1, hL⟩, fun _ => RG⟩
  refine br_t rfl (WX _ (br_t rfl (sm_ygat hP hL hmk (by omega) H hF (fun yh yd yt yb ys yr => ⟨?_, sm_in R'⟩))))
  rw [hcc, pk_sub hcu]
theorem i_vc_state {k : Nat} {u : SX} {v : SY} (I : i_Rel k u v) (hk : k + 5 ≤ 2562) : wpX_state (fun r => wpY_state (fun r' => r' = r ∧ i_Rel (k + 5) u v) v) u := by
  refine sm_el (P := fun u v => wpX_state (fun r => wpY_state (fun r' => r' = r ∧ i_Rel (k + 5) u v) v) u) ?_ I
  intro xle xpe sta opn xch xck xbc xcb xcc col res yh yd cp lm np nt fr sb us bo oc pm vs mk fi tk xo xj ow xh xk xl fp fa fh cb gl xbk xbp xbh sl cn cl cr fw ou yt yb ys yr lo st he nu lf rg hh kk dp pt hd R
  have J : i_Rel (k + 5) (xle, xpe, nI cp, nI lm, sta, nI np, opn, nI nt, xch, xck, xbc, nI fr, nI sb, nI us, xcb, xcc, col, nI bo, nI oc, res, sm_n pm, sm_n vs, sm_n mk, sm_k gl, sm_n fi, sm_n tk, sm_n xo, sm_n (sm_ar tk), sm_n xj, sm_n ow, sm_n xh, sm_n xk, sm_n xl, xbk, xbp, xbh, sm_n fp, sm_n fa, sl, cn, cl, cr, sm_n cb, fw, ou) (nI cp, nI lm, sta, nI np, opn, nI nt, yh, yd, nI fr, nI bo, col, nI oc, res, sm_n tk, sm_n fi, sm_n pm, sm_n vs, sm_n mk, sm_k gl, yt, yb, ys, yr, sm_n fp, sm_n fa, sm_n fh, lo, st, he, nu, lf, rg, ou) := sm_in R
  exact ⟨rfl, J⟩
theorem i_vc_collections {k : Nat} {u : SX} {v : SY} (I : i_Rel k u v) (hk : k + 5 ≤ 2562) : wpX_collections (fun r => wpY_collections (fun r' => r' = r ∧ i_Rel (k + 5) u v) v) u := by
  refine sm_el (P := fun u v => wpX_collections (fun r => wpY_collections (fun r' => r' = r ∧ i_Rel (k + 5) u v) v) u) ?_ I
  intro xle xpe sta opn xch xck xbc xcb xcc col res yh yd cp lm np nt fr sb us bo oc pm vs mk fi tk xo xj ow xh xk xl fp fa fh cb gl xbk xbp xbh sl cn cl cr fw ou yt yb ys yr lo st he nu lf rg hh kk dp pt hd R
  have J : i_Rel (k + 5) (xle, xpe, nI cp, nI lm, sta, nI np, opn, nI nt, xch, xck, xbc, nI fr, nI sb, nI us, xcb, xcc, col, nI bo, nI oc, res, sm_n pm, sm_n vs, sm_n mk, sm_k gl, sm_n fi, sm_n tk, sm_n xo, sm_n (sm_ar tk), sm_n xj, sm_n ow, sm_n xh, sm_n xk, sm_n xl, xbk, xbp, xbh, sm_n fp, sm_n fa, sl, cn, cl, cr, sm_n cb, fw, ou) (nI cp, nI lm, sta, nI np, opn, nI nt, yh, yd, nI fr, nI bo, col, nI oc, res, sm_n tk, sm_n fi, sm_n pm, sm_n vs, sm_n mk, sm_k gl, yt, yb, ys, yr, sm_n fp, sm_n fa, sm_n fh, lo, st, he, nu, lf, rg, ou) := sm_in R
  exact ⟨rfl, J⟩
theorem i_vc_born {k : Nat} {u : SX} {v : SY} (I : i_Rel k u v) (hk : k + 5 ≤ 2562) : wpX_born (fun r => wpY_born (fun r' => r' = r ∧ i_Rel (k + 5) u v) v) u := by
  refine sm_el (P := fun u v => wpX_born (fun r => wpY_born (fun r' => r' = r ∧ i_Rel (k + 5) u v) v) u) ?_ I
  intro xle xpe sta opn xch xck xbc xcb xcc col res yh yd cp lm np nt fr sb us bo oc pm vs mk fi tk xo xj ow xh xk xl fp fa fh cb gl xbk xbp xbh sl cn cl cr fw ou yt yb ys yr lo st he nu lf rg hh kk dp pt hd R
  have J : i_Rel (k + 5) (xle, xpe, nI cp, nI lm, sta, nI np, opn, nI nt, xch, xck, xbc, nI fr, nI sb, nI us, xcb, xcc, col, nI bo, nI oc, res, sm_n pm, sm_n vs, sm_n mk, sm_k gl, sm_n fi, sm_n tk, sm_n xo, sm_n (sm_ar tk), sm_n xj, sm_n ow, sm_n xh, sm_n xk, sm_n xl, xbk, xbp, xbh, sm_n fp, sm_n fa, sl, cn, cl, cr, sm_n cb, fw, ou) (nI cp, nI lm, sta, nI np, opn, nI nt, yh, yd, nI fr, nI bo, col, nI oc, res, sm_n tk, sm_n fi, sm_n pm, sm_n vs, sm_n mk, sm_k gl, yt, yb, ys, yr, sm_n fp, sm_n fa, sm_n fh, lo, st, he, nu, lf, rg, ou) := sm_in R
  exact ⟨rfl, J⟩
theorem i_vc_outCount {k : Nat} {u : SX} {v : SY} (I : i_Rel k u v) (hk : k + 5 ≤ 2562) : wpX_outCount (fun r => wpY_outCount (fun r' => r' = r ∧ i_Rel (k + 5) u v) v) u := by
  refine sm_el (P := fun u v => wpX_outCount (fun r => wpY_outCount (fun r' => r' = r ∧ i_Rel (k + 5) u v) v) u) ?_ I
  intro xle xpe sta opn xch xck xbc xcb xcc col res yh yd cp lm np nt fr sb us bo oc pm vs mk fi tk xo xj ow xh xk xl fp fa fh cb gl xbk xbp xbh sl cn cl cr fw ou yt yb ys yr lo st he nu lf rg hh kk dp pt hd R
  have J : i_Rel (k + 5) (xle, xpe, nI cp, nI lm, sta, nI np, opn, nI nt, xch, xck, xbc, nI fr, nI sb, nI us, xcb, xcc, col, nI bo, nI oc, res, sm_n pm, sm_n vs, sm_n mk, sm_k gl, sm_n fi, sm_n tk, sm_n xo, sm_n (sm_ar tk), sm_n xj, sm_n ow, sm_n xh, sm_n xk, sm_n xl, xbk, xbp, xbh, sm_n fp, sm_n fa, sl, cn, cl, cr, sm_n cb, fw, ou) (nI cp, nI lm, sta, nI np, opn, nI nt, yh, yd, nI fr, nI bo, col, nI oc, res, sm_n tk, sm_n fi, sm_n pm, sm_n vs, sm_n mk, sm_k gl, yt, yb, ys, yr, sm_n fp, sm_n fa, sm_n fh, lo, st, he, nu, lf, rg, ou) := sm_in R
  exact ⟨rfl, J⟩
theorem i_vc_used {k : Nat} {u : SX} {v : SY} (I : i_Rel k u v) (hk : k + 5 ≤ 2562) : wpX_used (fun r => wpY_used (fun r' => r' = r ∧ i_Rel (k + 5) u v) v) u := by
  refine sm_el (P := fun u v => wpX_used (fun r => wpY_used (fun r' => r' = r ∧ i_Rel (k + 5) u v) v) u) ?_ I
  intro xle xpe sta opn xch xck xbc xcb xcc col res yh yd cp lm np nt fr sb us bo oc pm vs mk fi tk xo xj ow xh xk xl fp fa fh cb gl xbk xbp xbh sl cn cl cr fw ou yt yb ys yr lo st he nu lf rg hh kk dp pt hd R
  have J : i_Rel (k + 5) (xle, xpe, nI cp, nI lm, sta, nI np, opn, nI nt, xch, xck, xbc, nI fr, nI sb, nI us, xcb, xcc, col, nI bo, nI oc, res, sm_n pm, sm_n vs, sm_n mk, sm_k gl, sm_n fi, sm_n tk, sm_n xo, sm_n (sm_ar tk), sm_n xj, sm_n ow, sm_n xh, sm_n xk, sm_n xl, xbk, xbp, xbh, sm_n fp, sm_n fa, sl, cn, cl, cr, sm_n cb, fw, ou) (nI cp, nI lm, sta, nI np, opn, nI nt, yh, yd, nI fr, nI bo, col, nI oc, res, sm_n tk, sm_n fi, sm_n pm, sm_n vs, sm_n mk, sm_k gl, yt, yb, ys, yr, sm_n fp, sm_n fa, sm_n fh, lo, st, he, nu, lf, rg, ou) := sm_in R
  exact sm_yus R.2.2.2.2.1 ⟨rfl, J⟩
theorem i_vc_token {k : Nat} {u : SX} {v : SY} (I : i_Rel k u v) (hk : k + 5 ≤ 2562) (v1 : Int32) : wpX_token (fun r => wpY_token (fun r' => r' = r ∧ i_Rel (k + 5) u v) v v1) u v1 := by
  refine sm_el (P := fun u v => wpX_token (fun r => wpY_token (fun r' => r' = r ∧ i_Rel (k + 5) u v) v v1) u v1) ?_ I
  intro xle xpe sta opn xch xck xbc xcb xcc col res yh yd cp lm np nt fr sb us bo oc pm vs mk fi tk xo xj ow xh xk xl fp fa fh cb gl xbk xbp xbh sl cn cl cr fw ou yt yb ys yr lo st he nu lf rg hh kk dp pt hd R
  have J : i_Rel (k + 5) (xle, xpe, nI cp, nI lm, sta, nI np, opn, nI nt, xch, xck, xbc, nI fr, nI sb, nI us, xcb, xcc, col, nI bo, nI oc, res, sm_n pm, sm_n vs, sm_n mk, sm_k gl, sm_n fi, sm_n tk, sm_n xo, sm_n (sm_ar tk), sm_n xj, sm_n ow, sm_n xh, sm_n xk, sm_n xl, xbk, xbp, xbh, sm_n fp, sm_n fa, sl, cn, cl, cr, sm_n cb, fw, ou) (nI cp, nI lm, sta, nI np, opn, nI nt, yh, yd, nI fr, nI bo, col, nI oc, res, sm_n tk, sm_n fi, sm_n pm, sm_n vs, sm_n mk, sm_k gl, yt, yb, ys, yr, sm_n fp, sm_n fa, sm_n fh, lo, st, he, nu, lf, rg, ou) := sm_in R
  have n160 := R.2.2.1.1.2.1
  by_cases c1 : v1 < 0
  · exact br_t c1 (br_t c1 ⟨rfl, J⟩)
  by_cases c2 : v1 < nI nt
  · obtain ⟨i, i1, rfl⟩ := nI_of c1
    have i2 := (nI_ltI i1 (by omega)).mp c2
    have vi : vp_in (nI i) 160 := vp_in_nI (by omega) (by decide)
    exact br_f c1 (br_t c2 ⟨vi, br_f c1 (br_t c2 ⟨vi, rfl, J⟩)⟩)
  · exact br_f c1 (br_f c2 (br_f c1 (br_f c2 ⟨rfl, J⟩)))
theorem i_vc_shape {k : Nat} {u : SX} {v : SY} (I : i_Rel k u v) (hk : k + 5 ≤ 2562) (v1 : Int32) : wpX_shape (fun r => wpY_shape (fun r' => r' = r ∧ i_Rel (k + 5) u v) v v1) u v1 := by
  refine sm_el (P := fun u v => wpX_shape (fun r => wpY_shape (fun r' => r' = r ∧ i_Rel (k + 5) u v) v v1) u v1) ?_ I
  intro xle xpe sta opn xch xck xbc xcb xcc col res yh yd cp lm np nt fr sb us bo oc pm vs mk fi tk xo xj ow xh xk xl fp fa fh cb gl xbk xbp xbh sl cn cl cr fw ou yt yb ys yr lo st he nu lf rg hh kk dp pt hd R
  have J : i_Rel (k + 5) (xle, xpe, nI cp, nI lm, sta, nI np, opn, nI nt, xch, xck, xbc, nI fr, nI sb, nI us, xcb, xcc, col, nI bo, nI oc, res, sm_n pm, sm_n vs, sm_n mk, sm_k gl, sm_n fi, sm_n tk, sm_n xo, sm_n (sm_ar tk), sm_n xj, sm_n ow, sm_n xh, sm_n xk, sm_n xl, xbk, xbp, xbh, sm_n fp, sm_n fa, sl, cn, cl, cr, sm_n cb, fw, ou) (nI cp, nI lm, sta, nI np, opn, nI nt, yh, yd, nI fr, nI bo, col, nI oc, res, sm_n tk, sm_n fi, sm_n pm, sm_n vs, sm_n mk, sm_k gl, yt, yb, ys, yr, sm_n fp, sm_n fa, sm_n fh, lo, st, he, nu, lf, rg, ou) := sm_in R
  have n8 := R.2.2.1.1.1
  by_cases c1 : v1 < 0
  · exact br_t c1 (br_t c1 ⟨rfl, J⟩)
  by_cases c2 : v1 < nI np
  · obtain ⟨i, i1, rfl⟩ := nI_of c1
    have i2 := (nI_ltI i1 (by omega)).mp c2
    have vi : vp_in (nI i) 8 := vp_in_nI (by omega) (by decide)
    exact br_f c1 (br_t c2 ⟨vi, vi, vi, vi, br_f c1 (br_t c2 ⟨vi, vi, vi, vi, rfl, J⟩)⟩)
  · exact br_f c1 (br_f c2 (br_f c1 (br_f c2 ⟨rfl, J⟩)))
theorem i_vc_out {k : Nat} {u : SX} {v : SY} (I : i_Rel k u v) (hk : k + 5 ≤ 2562) (v1 : Int32) : wpX_out (fun r => wpY_out (fun r' => r' = r ∧ i_Rel (k + 5) u v) v v1) u v1 := by
  refine sm_el (P := fun u v => wpX_out (fun r => wpY_out (fun r' => r' = r ∧ i_Rel (k + 5) u v) v v1) u v1) ?_ I
  intro xle xpe sta opn xch xck xbc xcb xcc col res yh yd cp lm np nt fr sb us bo oc pm vs mk fi tk xo xj ow xh xk xl fp fa fh cb gl xbk xbp xbh sl cn cl cr fw ou yt yb ys yr lo st he nu lf rg hh kk dp pt hd R
  have J : i_Rel (k + 5) (xle, xpe, nI cp, nI lm, sta, nI np, opn, nI nt, xch, xck, xbc, nI fr, nI sb, nI us, xcb, xcc, col, nI bo, nI oc, res, sm_n pm, sm_n vs, sm_n mk, sm_k gl, sm_n fi, sm_n tk, sm_n xo, sm_n (sm_ar tk), sm_n xj, sm_n ow, sm_n xh, sm_n xk, sm_n xl, xbk, xbp, xbh, sm_n fp, sm_n fa, sl, cn, cl, cr, sm_n cb, fw, ou) (nI cp, nI lm, sta, nI np, opn, nI nt, yh, yd, nI fr, nI bo, col, nI oc, res, sm_n tk, sm_n fi, sm_n pm, sm_n vs, sm_n mk, sm_k gl, yt, yb, ys, yr, sm_n fp, sm_n fa, sm_n fh, lo, st, he, nu, lf, rg, ou) := sm_in R
  have o32 := R.1.2.2
  by_cases c1 : v1 < 0
  · exact br_t c1 (br_t c1 ⟨rfl, J⟩)
  by_cases c2 : v1 < nI oc
  · obtain ⟨i, i1, rfl⟩ := nI_of c1
    have i2 := (nI_ltI i1 (by omega)).mp c2
    have vi : vp_in (nI i) 32 := vp_in_nI (by omega) (by decide)
    exact br_f c1 (br_t c2 ⟨vi, br_f c1 (br_t c2 ⟨vi, rfl, J⟩)⟩)
  · exact br_f c1 (br_f c2 (br_f c1 (br_f c2 ⟨rfl, J⟩)))
theorem i_vc_result {k : Nat} {u : SX} {v : SY} (I : i_Rel k u v) (hk : k + 5 ≤ 2562) : wpX_result (fun r => wpY_result (fun r' => r' = r ∧ i_Rel (k + 5) u v) v) u := by
  refine sm_el (P := fun u v => wpX_result (fun r => wpY_result (fun r' => r' = r ∧ i_Rel (k + 5) u v) v) u) ?_ I
  intro xle xpe sta opn xch xck xbc xcb xcc col res yh yd cp lm np nt fr sb us bo oc pm vs mk fi tk xo xj ow xh xk xl fp fa fh cb gl xbk xbp xbh sl cn cl cr fw ou yt yb ys yr lo st he nu lf rg hh kk dp pt hd R
  have J : i_Rel (k + 5) (xle, xpe, nI cp, nI lm, sta, nI np, opn, nI nt, xch, xck, xbc, nI fr, nI sb, nI us, xcb, xcc, col, nI bo, nI oc, res, sm_n pm, sm_n vs, sm_n mk, sm_k gl, sm_n fi, sm_n tk, sm_n xo, sm_n (sm_ar tk), sm_n xj, sm_n ow, sm_n xh, sm_n xk, sm_n xl, xbk, xbp, xbh, sm_n fp, sm_n fa, sl, cn, cl, cr, sm_n cb, fw, ou) (nI cp, nI lm, sta, nI np, opn, nI nt, yh, yd, nI fr, nI bo, col, nI oc, res, sm_n tk, sm_n fi, sm_n pm, sm_n vs, sm_n mk, sm_k gl, yt, yb, ys, yr, sm_n fp, sm_n fa, sm_n fh, lo, st, he, nu, lf, rg, ou) := sm_in R
  by_cases c : sta = 3
  · exact br_t c (br_t c ⟨rfl, J⟩)
  · exact br_f c (br_f c ⟨rfl, J⟩)
theorem i_vc_place {k : Nat} {u : SX} {v : SY} (I : i_Rel k u v) (hk : k + 5 ≤ 2562) (v1 : Int32) : wpX_place (fun r => wpY_place (fun r' => r' = r ∧ i_Rel (k + 5) u v) v v1) u v1 := by
  refine sm_el (P := fun u v => wpX_place (fun r => wpY_place (fun r' => r' = r ∧ i_Rel (k + 5) u v) v v1) u v1) ?_ I
  intro xle xpe sta opn xch xck xbc xcb xcc col res yh yd cp lm np nt fr sb us bo oc pm vs mk fi tk xo xj ow xh xk xl fp fa fh cb gl xbk xbp xbh sl cn cl cr fw ou yt yb ys yr lo st he nu lf rg hh kk dp pt hd R
  have J : i_Rel (k + 5) (xle, xpe, nI cp, nI lm, sta, nI np, opn, nI nt, xch, xck, xbc, nI fr, nI sb, nI us, xcb, xcc, col, nI bo, nI oc, res, sm_n pm, sm_n vs, sm_n mk, sm_k gl, sm_n fi, sm_n tk, sm_n xo, sm_n (sm_ar tk), sm_n xj, sm_n ow, sm_n xh, sm_n xk, sm_n xl, xbk, xbp, xbh, sm_n fp, sm_n fa, sl, cn, cl, cr, sm_n cb, fw, ou) (nI cp, nI lm, sta, nI np, opn, nI nt, yh, yd, nI fr, nI bo, col, nI oc, res, sm_n tk, sm_n fi, sm_n pm, sm_n vs, sm_n mk, sm_k gl, yt, yb, ys, yr, sm_n fp, sm_n fa, sm_n fh, lo, st, he, nu, lf, rg, ou) := sm_in R
  by_cases hs : sta = 2
  rotate_left
  · exact br_f hs (br_f hs ⟨rfl, J⟩)
  obtain ⟨⟨l1, l2, l3⟩, hmk, hP, hxx, H, h0, h1, h2⟩ := id R
  subst hs
  obtain ⟨rfl, n1, hL⟩ := h1 (by decide)
  obtain ⟨r1, r2, hF⟩ := h2 rfl
  have n8 := hP.1.1
  have n160 := hP.1.2.1
  have hxl : ∀ i, i < nt → xl i < 256 := fun i hi => (hL i hi).1
  obtain ⟨⟨p1, p2, p3, p4, psb⟩, q1, q2, q3⟩ := id H
  by_cases c1 : v1 < 0
  · exact br_t rfl (br_t c1 (br_t rfl (br_t c1 ⟨rfl, J⟩)))
  by_cases c2 : v1 < nI fr
  · obtain ⟨i, i1, rfl⟩ := nI_of c1
    have i2 := (nI_ltI i1 (by omega)).mp c2
    have vi : vp_in (nI i) 8 := vp_in_nI (by omega) (by decide)
    exact br_t rfl (br_f c1 (br_t c2 ⟨vi, br_t rfl (br_f c1 (br_t c2 ⟨vi, rfl, J⟩))⟩))
  · exact br_t rfl (br_f c1 (br_f c2 (br_t rfl (br_f c1 (br_f c2 ⟨rfl, J⟩)))))
theorem i_vc_map {k : Nat} {u : SX} {v : SY} (I : i_Rel k u v) (hk : k + 5 ≤ 2562) (v1 : Int32) : wpX_map (fun r => wpY_map (fun r' v' => r' = r ∧ i_Rel (k + 5) u v') v v1) u v1 := by
  refine sm_el (P := fun u v => wpX_map (fun r => wpY_map (fun r' v' => r' = r ∧ i_Rel (k + 5) u v') v v1) u v1) ?_ I
  intro xle xpe sta opn xch xck xbc xcb xcc col res yh yd cp lm np nt fr sb us bo oc pm vs mk fi tk xo xj ow xh xk xl fp fa fh cb gl xbk xbp xbh sl cn cl cr fw ou yt yb ys yr lo st he nu lf rg hh kk dp pt hd R
  have J : i_Rel (k + 5) (xle, xpe, nI cp, nI lm, sta, nI np, opn, nI nt, xch, xck, xbc, nI fr, nI sb, nI us, xcb, xcc, col, nI bo, nI oc, res, sm_n pm, sm_n vs, sm_n mk, sm_k gl, sm_n fi, sm_n tk, sm_n xo, sm_n (sm_ar tk), sm_n xj, sm_n ow, sm_n xh, sm_n xk, sm_n xl, xbk, xbp, xbh, sm_n fp, sm_n fa, sl, cn, cl, cr, sm_n cb, fw, ou) (nI cp, nI lm, sta, nI np, opn, nI nt, yh, yd, nI fr, nI bo, col, nI oc, res, sm_n tk, sm_n fi, sm_n pm, sm_n vs, sm_n mk, sm_k gl, yt, yb, ys, yr, sm_n fp, sm_n fa, sm_n fh, lo, st, he, nu, lf, rg, ou) := sm_in R
  by_cases hs : sta = 0
  · exact br_t hs (br_t hs ⟨rfl, J⟩)
  obtain ⟨⟨l1, l2, l3⟩, hmk, hP, hxx, H, h0, h1, h2⟩ := id R
  obtain ⟨rfl, n1, hL⟩ := h1 hs
  have n160 := hP.1.2.1
  by_cases c1 : v1 < 0
  · exact br_f hs (br_t c1 (br_f hs (br_t c1 ⟨rfl, J⟩)))
  obtain ⟨i, i1, rfl⟩ := nI_of c1
  by_cases c2 : i < nt
  rotate_left
  · exact br_f hs (br_f c1 (br_f (nI_nlt (by omega) i1) (br_f hs (br_f c1 (br_t (nI_le (by omega) i1) ⟨rfl, J⟩)))))
  have x2 : nI i < nI nt := nI_lt c2 (by omega)
  have y2 : ¬ nI nt ≤ nI i := nI_ge c2 (by omega)
  refine br_f hs (br_f c1 (br_t x2 (sm_xsp hP c2 ?_)))
  cases hsp : sm_sp xo i
  · refine br_t rfl (br_f hs (br_f c1 (br_f y2 (sm_ysp hP c2 ?_))))
    rw [hsp]
    exact br_t rfl ⟨rfl, J⟩
  · refine br_f (by decide) (sm_xlm hP hxx c2 (br_f hs (br_f c1 (br_f y2 (sm_ysp hP c2 ?_)))))
    rw [hsp]
    refine br_f (by decide) (sm_yow hP c2 ⟨vs (ow i) + 1, ?_⟩)
    have k := sm_ym40' (cp := cp) (lm := lm) (sta := sta) (opn := 0) (fr := fr) (bo := bo) (col := col) (oc := oc) (res := res) (fp := fp) (fa := fa) (fh := fh) (lo := lo) (st := st) (he := he) (nu := nu) (lf := lf) (rg := rg) (ou := ou) (post := fun r' v' => r' = nI ((xl i &&& mk (ow i)) ||| kk i * 256) ∧ i_Rel (k + 5) (xle, xpe, nI cp, nI lm, sta, nI np, 0, nI nt, xch, xck, xbc, nI fr, nI sb, nI us, xcb, xcc, col, nI bo, nI oc, res, sm_n pm, sm_n vs, sm_n mk, sm_k gl, sm_n fi, sm_n tk, sm_n xo, sm_n (sm_ar tk), sm_n xj, sm_n ow, sm_n xh, sm_n xk, sm_n xl, xbk, xbp, xbh, sm_n fp, sm_n fa, sl, cn, cl, cr, sm_n cb, fw, ou) v') hP hL hmk c2 (fun yh yd yt yb ys yr => ⟨rfl, sm_in R⟩) (vs (ow i) + 1) 0 yh yd yt yb ys yr (by omega) (by omega)
    rw [show (2 : Nat) ^ 0 = 1 from rfl, Nat.mod_one] at k
    exact k
theorem i_vc_slotKind {k : Nat} {u : SX} {v : SY} (I : i_Rel k u v) (hk : k + 5 ≤ 2562) (v1 : Int32) (v2 : Int32) : wpX_slotKind (fun r => wpY_slotKind (fun r' v' => r' = r ∧ i_Rel (k + 5) u v') v v1 v2) u v1 v2 := by
  refine sm_el (P := fun u v => wpX_slotKind (fun r => wpY_slotKind (fun r' v' => r' = r ∧ i_Rel (k + 5) u v') v v1 v2) u v1 v2) ?_ I
  intro xle xpe sta opn xch xck xbc xcb xcc col res yh yd cp lm np nt fr sb us bo oc pm vs mk fi tk xo xj ow xh xk xl fp fa fh cb gl xbk xbp xbh sl cn cl cr fw ou yt yb ys yr lo st he nu lf rg hh kk dp pt hd R
  have J : i_Rel (k + 5) (xle, xpe, nI cp, nI lm, sta, nI np, opn, nI nt, xch, xck, xbc, nI fr, nI sb, nI us, xcb, xcc, col, nI bo, nI oc, res, sm_n pm, sm_n vs, sm_n mk, sm_k gl, sm_n fi, sm_n tk, sm_n xo, sm_n (sm_ar tk), sm_n xj, sm_n ow, sm_n xh, sm_n xk, sm_n xl, xbk, xbp, xbh, sm_n fp, sm_n fa, sl, cn, cl, cr, sm_n cb, fw, ou) (nI cp, nI lm, sta, nI np, opn, nI nt, yh, yd, nI fr, nI bo, col, nI oc, res, sm_n tk, sm_n fi, sm_n pm, sm_n vs, sm_n mk, sm_k gl, yt, yb, ys, yr, sm_n fp, sm_n fa, sm_n fh, lo, st, he, nu, lf, rg, ou) := sm_in R
  by_cases hs : sta = 2
  rotate_left
  · exact br_f hs (br_f hs ⟨rfl, J⟩)
  obtain ⟨⟨l1, l2, l3⟩, hmk, hP, hxx, H, h0, h1, h2⟩ := id R
  subst hs
  obtain ⟨rfl, n1, hL⟩ := h1 (by decide)
  obtain ⟨r1, r2, hF⟩ := h2 rfl
  have n8 := hP.1.1
  have n160 := hP.1.2.1
  have hxl : ∀ i, i < nt → xl i < 256 := fun i hi => (hL i hi).1
  obtain ⟨⟨p1, p2, p3, p4, psb⟩, q1, q2, q3⟩ := id H
  by_cases c1 : v1 < 0
  · exact br_t rfl (br_t c1 (br_t rfl (br_t c1 ⟨rfl, J⟩)))
  by_cases c2 : nI fr ≤ v1
  · exact br_t rfl (br_f c1 (br_t c2 (br_t rfl (br_f c1 (br_t c2 ⟨rfl, J⟩)))))
  by_cases c3 : v2 < 0
  · exact br_t rfl (br_f c1 (br_f c2 (br_t c3 (br_t rfl (br_f c1 (br_f c2 (br_f (Int32.not_le.mpr c3) ⟨rfl, J⟩)))))))
  obtain ⟨f, f1, rfl⟩ := nI_of c1
  rw [nI_leI (by omega) f1] at c2
  have hf : f < fr := by omega
  obtain ⟨s, s1, rfl⟩ := nI_of c3
  exact sm_xsk hP hL hxx hmk (by omega) hf s1 (hF f hf) (sm_ysk2 hP hL hmk (by omega) hf s1 (hF f hf) (fun yh yd yt yb ys yr => ⟨rfl, sm_in R⟩))
theorem i_vc_slot {k : Nat} {u : SX} {v : SY} (I : i_Rel k u v) (hk : k + 5 ≤ 2562) (v1 : Int32) (v2 : Int32) : wpX_slot (fun r => wpY_slot (fun r' v' => r' = r ∧ i_Rel (k + 5) u v') v v1 v2) u v1 v2 := by
  refine sm_el (P := fun u v => wpX_slot (fun r => wpY_slot (fun r' v' => r' = r ∧ i_Rel (k + 5) u v') v v1 v2) u v1 v2) ?_ I
  intro xle xpe sta opn xch xck xbc xcb xcc col res yh yd cp lm np nt fr sb us bo oc pm vs mk fi tk xo xj ow xh xk xl fp fa fh cb gl xbk xbp xbh sl cn cl cr fw ou yt yb ys yr lo st he nu lf rg hh kk dp pt hd R
  have J : i_Rel (k + 5) (xle, xpe, nI cp, nI lm, sta, nI np, opn, nI nt, xch, xck, xbc, nI fr, nI sb, nI us, xcb, xcc, col, nI bo, nI oc, res, sm_n pm, sm_n vs, sm_n mk, sm_k gl, sm_n fi, sm_n tk, sm_n xo, sm_n (sm_ar tk), sm_n xj, sm_n ow, sm_n xh, sm_n xk, sm_n xl, xbk, xbp, xbh, sm_n fp, sm_n fa, sl, cn, cl, cr, sm_n cb, fw, ou) (nI cp, nI lm, sta, nI np, opn, nI nt, yh, yd, nI fr, nI bo, col, nI oc, res, sm_n tk, sm_n fi, sm_n pm, sm_n vs, sm_n mk, sm_k gl, yt, yb, ys, yr, sm_n fp, sm_n fa, sm_n fh, lo, st, he, nu, lf, rg, ou) := sm_in R
  by_cases hs : sta = 2
  rotate_left
  · unfold wpX_slot
    dsimp only
    refine br_f hs (br_f (by decide) (br_f (by decide) ?_))
    unfold wpY_slot
    dsimp only
    exact br_f hs (br_f (by decide) ⟨rfl, J⟩)
  obtain ⟨⟨l1, l2, l3⟩, hmk, hP, hxx, H, h0, h1, h2⟩ := id R
  subst hs
  obtain ⟨rfl, n1, hL⟩ := h1 (by decide)
  obtain ⟨r1, r2, hF⟩ := h2 rfl
  have n8 := hP.1.1
  have n160 := hP.1.2.1
  have hxl : ∀ i, i < nt → xl i < 256 := fun i hi => (hL i hi).1
  obtain ⟨⟨p1, p2, p3, p4, psb⟩, q1, q2, q3⟩ := id H
  by_cases c1 : v1 < 0
  · unfold wpX_slot
    dsimp only
    refine br_t rfl (br_t c1 (br_f (by decide) (br_f (by decide) ?_)))
    unfold wpY_slot
    dsimp only
    exact br_t rfl (br_t c1 (br_f (by decide) ⟨rfl, J⟩))
  by_cases c2 : nI fr ≤ v1
  · unfold wpX_slot
    dsimp only
    refine br_t rfl (br_f c1 (br_t c2 (br_f (by decide) (br_f (by decide) ?_))))
    unfold wpY_slot
    dsimp only
    exact br_t rfl (br_f c1 (br_t c2 (br_f (by decide) ⟨rfl, J⟩)))
  by_cases c3 : v2 < 0
  · unfold wpX_slot
    dsimp only
    refine br_t rfl (br_f c1 (br_f c2 (br_t c3 (br_f (by decide) (br_f (by decide) ?_)))))
    unfold wpY_slot
    dsimp only
    exact br_t rfl (br_f c1 (br_f c2 (br_f (Int32.not_le.mpr c3) (br_f (by decide) ⟨rfl, J⟩))))
  obtain ⟨f, f1, rfl⟩ := nI_of c1
  rw [nI_leI (by omega) f1] at c2
  have hf : f < fr := by omega
  obtain ⟨s, s1, rfl⟩ := nI_of c3
  have hFf := hF f hf
  have h88 := sm_fh8 hP hf hFf
  obtain ⟨⟨g1, g2, g3⟩, g4, g5, g6, g7⟩ := id hFf
  have key : (sm_skv vs mk kk xl fp fa fh f s < 2) ∨ (s < 16 ∧ (sm_skv vs mk kk xl fp fa fh f s = 2 ∨ sm_skv vs mk kk xl fp fa fh f s = 3) ∧ ∃ b : Int32, (s < 8 → lo (f * 8 + s) = b) ∧ (8 ≤ s → st (f * 8 + s - 8) = b) ∧ (sm_skv vs mk kk xl fp fa fh f s = 2 → sl (f * 16 + s) = b) ∧ (sm_skv vs mk kk xl fp fa fh f s = 3 → sm_VR us sb cb (sl (f * 16 + s)) b)) := by
    unfold sm_skv
    by_cases e8 : s < 8
    · rw [if_pos e8]
      by_cases ev : s < vs (fp f)
      · rw [if_pos ev]
        by_cases el : (xl (fa f)).testBit s = true
        · rw [if_pos el]
          refine Or.inr ⟨by omega, ?_, lo (f * 8 + s), fun _ => rfl, fun z => by omega, ?_, ?_⟩
          · cases (mk (fp f)).testBit s
            · exact Or.inl rfl
            · exact Or.inr rfl
          · intro z
            refine (g6 s ev).1 ?_
            cases hb : (mk (fp f)).testBit s
            · rfl
            · rw [hb] at z; exact absurd z (by decide)
          · intro z
            refine (g6 s ev).2 ?_ el
            cases hb : (mk (fp f)).testBit s
            · rw [hb] at z; exact absurd z (by decide)
            · rfl
        · rw [if_neg el]; exact Or.inl (by omega)
      · rw [if_neg ev]; exact Or.inl (by omega)
    · rw [if_neg e8]
      by_cases ev : s - 8 < fh f
      · rw [if_pos ev]
        have vk := g7 (s - 8) ev
        rw [show f * 16 + 8 + (s - 8) = f * 16 + s by omega, show f * 8 + (s - 8) = f * 8 + s - 8 by omega] at vk
        refine Or.inr ⟨by omega, ?_, st (f * 8 + s - 8), fun z => by omega, fun _ => rfl, ?_, ?_⟩
        · cases (kk (fa f)).testBit (s - 8)
          · exact Or.inl rfl
          · exact Or.inr rfl
        · intro z
          refine vk.1 ?_
          cases hb : (kk (fa f)).testBit (s - 8)
          · rfl
          · rw [hb] at z; exact absurd z (by decide)
        · intro z
          refine vk.2 ?_
          cases hb : (kk (fa f)).testBit (s - 8)
          · rw [hb] at z; exact absurd z (by decide)
          · rfl
      · rw [if_neg ev]; exact Or.inl (by omega)
  unfold wpX_slot
  dsimp only
  refine sm_xsk hP hL hxx hmk (by omega) hf s1 hFf ?_
  generalize ek : sm_skv vs mk kk xl fp fa fh f s = w at key
  rcases key with key | ⟨s16, key, b, b1, b2, b3, b4⟩
  · refine br_f (fun z => absurd ((sm_eq2 (by omega)).mp z) (by omega)) (br_f (fun z => absurd ((sm_eq3 (by omega)).mp z) (by omega)) ?_)
    unfold wpY_slot
    dsimp only
    refine sm_ysk2 hP hL hmk (by omega) hf s1 hFf (fun yh yd yt yb ys yr => ?_)
    rw [ek]
    exact br_f (fun z => absurd ((sm_ge2 (by omega)).mp z) (by omega)) ⟨rfl, sm_in R⟩
  · have YY : wpY_slot (fun r' v' => r' = b ∧ i_Rel (k + 5) (xle, xpe, nI cp, nI lm, 2, nI np, 0, nI nt, xch, xck, xbc, nI fr, nI sb, nI us, xcb, xcc, col, nI bo, nI oc, res, sm_n pm, sm_n vs, sm_n mk, sm_k gl, sm_n fi, sm_n tk, sm_n xo, sm_n (sm_ar tk), sm_n xj, sm_n ow, sm_n xh, sm_n xk, sm_n xl, xbk, xbp, xbh, sm_n fp, sm_n fa, sl, cn, cl, cr, sm_n cb, fw, ou) v') (nI cp, nI lm, 2, nI np, 0, nI nt, yh, yd, nI fr, nI bo, col, nI oc, res, sm_n tk, sm_n fi, sm_n pm, sm_n vs, sm_n mk, sm_k gl, yt, yb, ys, yr, sm_n fp, sm_n fa, sm_n fh, lo, st, he, nu, lf, rg, ou) (nI f) (nI s) := by
      unfold wpY_slot
      dsimp only
      refine sm_ysk2 hP hL hmk (by omega) hf s1 hFf (fun yh yd yt yb ys yr => ?_)
      rw [ek]
      refine br_t ((sm_ge2 (by omega)).mpr (by omega)) (pk_le 8 s (fun z => ?_) (fun z => ?_))
      · rw [sm_mu8, nI_add, sm_sb8 (by omega), nI_clamp (show f * 8 + s - 8 < 2 ^ 31 by omega)]
        exact ⟨vp_in_nI (by omega) (by decide), b2 z, sm_in R⟩
      · rw [sm_mu8, nI_add, nI_clamp (show f * 8 + s < 2 ^ 31 by omega)]
        exact ⟨vp_in_nI (by omega) (by decide), b1 z, sm_in R⟩
    have ea : nI f * 16 + nI s = nI (f * 16 + s) := by rw [sm_mu16, nI_add]
    have va : vp_in (nI f * 16 + nI s) 128 := by rw [ea]; exact vp_in_nI (by omega) (by decide)
    have ca : (nI f * 16 + nI s).toNatClampNeg = f * 16 + s := by rw [ea]; exact nI_clamp (by omega)
    rcases key with key | key
    · refine br_t (by rw [key]; rfl) (And.intro va (nm_r (e' := b) (by rw [ca]; exact b3 key) (br_t (by rw [key]; rfl) YY)))
    · refine br_f (by rw [key]; decide) (br_t (by rw [key]; rfl) (And.intro va (nm_r (e' := sl (f * 16 + s)) (by rw [ca]) (br_f (by rw [key]; decide) (sm_xba (by omega) (by omega) (b4 key) YY)))))
theorem i_vc_field {k : Nat} {u : SX} {v : SY} (I : i_Rel k u v) (hk : k + 5 ≤ 2562) (v1 : Int32) (v2 : Int32) : wpX_field (fun r => wpY_field (fun r' => r' = r ∧ i_Rel (k + 5) u v) v v1 v2) u v1 v2 := by
  refine sm_el (P := fun u v => wpX_field (fun r => wpY_field (fun r' => r' = r ∧ i_Rel (k + 5) u v) v v1 v2) u v1 v2) ?_ I
  intro xle xpe sta opn xch xck xbc xcb xcc col res yh yd cp lm np nt fr sb us bo oc pm vs mk fi tk xo xj ow xh xk xl fp fa fh cb gl xbk xbp xbh sl cn cl cr fw ou yt yb ys yr lo st he nu lf rg hh kk dp pt hd R
  have J : i_Rel (k + 5) (xle, xpe, nI cp, nI lm, sta, nI np, opn, nI nt, xch, xck, xbc, nI fr, nI sb, nI us, xcb, xcc, col, nI bo, nI oc, res, sm_n pm, sm_n vs, sm_n mk, sm_k gl, sm_n fi, sm_n tk, sm_n xo, sm_n (sm_ar tk), sm_n xj, sm_n ow, sm_n xh, sm_n xk, sm_n xl, xbk, xbp, xbh, sm_n fp, sm_n fa, sl, cn, cl, cr, sm_n cb, fw, ou) (nI cp, nI lm, sta, nI np, opn, nI nt, yh, yd, nI fr, nI bo, col, nI oc, res, sm_n tk, sm_n fi, sm_n pm, sm_n vs, sm_n mk, sm_k gl, yt, yb, ys, yr, sm_n fp, sm_n fa, sm_n fh, lo, st, he, nu, lf, rg, ou) := sm_in R
  obtain ⟨⟨l1, l2, l3⟩, hmk, hP, hxx, H, h0, h1, h2⟩ := id R
  obtain ⟨⟨p1, p2, p3, p4, psb⟩, q1, q2, q3⟩ := id H
  by_cases c1 : v1 < 1
  · exact br_t c1 (br_t c1 ⟨rfl, J⟩)
  by_cases c2 : nI bo < v1
  · exact br_f c1 (br_t c2 (br_f c1 (br_t c2 ⟨rfl, J⟩)))
  obtain ⟨b, b1, rfl⟩ := nI_of (x := v1) (fun z => c1 (Int32.lt_trans z (by decide)))
  have e1 : 1 ≤ b := by rw [sm_lt1 b1] at c1; omega
  have e2 : b ≤ bo := by rw [nI_ltI (by omega) b1] at c2; omega
  have vb : vp_in (nI b) 121 := vp_in_nI (by omega) (by decide)
  have cb1 : (nI b).toNatClampNeg = b := nI_clamp (by omega)
  have YA : ∀ post : Int32 → Prop, ((he b = 0 → post 0) ∧ (¬ he b = 0 → ((v2 = 0 → post (nu b)) ∧ (¬ v2 = 0 → ((v2 = 1 → post (lf b)) ∧ (¬ v2 = 1 → ((v2 = 2 → post (rg b)) ∧ (¬ v2 = 2 → post 0)))))))) → wpY_field post (nI cp, nI lm, sta, nI np, opn, nI nt, yh, yd, nI fr, nI bo, col, nI oc, res, sm_n tk, sm_n fi, sm_n pm, sm_n vs, sm_n mk, sm_k gl, yt, yb, ys, yr, sm_n fp, sm_n fa, sm_n fh, lo, st, he, nu, lf, rg, ou) (nI b) v2 := by
    intro post h
    refine br_f c1 (br_f c2 (And.intro vb ?_))
    rw [cb1]
    exact ⟨h.1, fun z => ⟨fun y => ⟨vb, (h.2 z).1 y⟩, fun y => ⟨fun w => ⟨vb, ((h.2 z).2 y).1 w⟩, fun w => ⟨fun x => ⟨vb, (((h.2 z).2 y).2 w).1 x⟩, (((h.2 z).2 y).2 w).2⟩⟩⟩⟩
  by_cases c3 : v2 < 0
  · have n0 : ¬ v2 = 0 := fun z => by rw [z] at c3; exact absurd c3 (by decide)
    have n1 : ¬ v2 = 1 := fun z => by rw [z] at c3; exact absurd c3 (by decide)
    have n2 : ¬ v2 = 2 := fun z => by rw [z] at c3; exact absurd c3 (by decide)
    exact br_f c1 (br_f c2 (br_t c3 (YA _ (br_c (fun _ => ⟨rfl, J⟩) (fun _ => br_f n0 (br_f n1 (br_f n2 ⟨rfl, J⟩)))))))
  by_cases c4 : v2 ≤ 2
  rotate_left
  · have n0 : ¬ v2 = 0 := fun z => c4 (by rw [z]; decide)
    have n1 : ¬ v2 = 1 := fun z => c4 (by rw [z]; decide)
    have n2 : ¬ v2 = 2 := fun z => c4 (by rw [z]; decide)
    exact br_f c1 (br_f c2 (br_f c3 (br_f c4 (YA _ (br_c (fun _ => ⟨rfl, J⟩) (fun _ => br_f n0 (br_f n1 (br_f n2 ⟨rfl, J⟩))))))))
  obtain ⟨m, m1, rfl⟩ := nI_of c3
  rw [sm_le2 m1] at c4
  have hm : m = 0 ∨ m = 1 ∨ m = 2 := by omega
  have c4' : nI m ≤ 2 := (sm_le2 m1).mpr c4
  refine br_f c1 (br_f c2 (br_f c3 (br_t c4' (sm_xad (by omega) (by omega) e1 (by omega) (fun c hc => by have := (q1 c hc).2.1; omega) q2 (fun c hc ec => ?_) (fun hn => ?_)))))
  · obtain ⟨d1, d2, d3, d4, d5, d6⟩ := q1 c hc
    rw [ec] at d3 d4 d5 d6
    have va : vp_in (nI (sb + 1 + c)) 33 := vp_in_nI (by omega) (by decide)
    have ca : (nI (sb + 1 + c)).toNatClampNeg = sb + 1 + c := nI_clamp (by omega)
    refine br_f (nI_ne0 (by omega) (by omega)) ?_
    rw [ca]
    rcases hm with e | e | e
    · subst e
      exact br_t rfl ⟨va, YA _ (br_f d3 (br_t rfl ⟨d4, J⟩))⟩
    · subst e
      refine br_f (by decide) (br_t rfl (And.intro va ?_))
      exact sm_xba (by omega) (by omega) d5 (YA _ (br_f d3 (br_f (by decide) (br_t rfl ⟨rfl, J⟩))))
    · subst e
      refine br_f (by decide) (br_f (by decide) (And.intro va ?_))
      exact sm_xba (by omega) (by omega) d6 (YA _ (br_f d3 (br_f (by decide) (br_f (by decide) (br_t rfl ⟨rfl, J⟩)))))
  · have hz : he b = 0 := by
      by_cases z : he b = 0
      · exact z
      · obtain ⟨c, c5, c6⟩ := q3 b e1 e2 z
        exact absurd c6 (hn c c5)
    exact br_t rfl (YA _ (br_t hz ⟨rfl, J⟩))
theorem i_vc_cell {k : Nat} {u : SX} {v : SY} (I : i_Rel k u v) (hk : k + 5 ≤ 2562) (v1 : Int32) : wpX_cell (fun r => wpY_cell (fun r' v' => r' = r ∧ i_Rel (k + 5) u v') v v1) u v1 := by
  refine sm_el (P := fun u v => wpX_cell (fun r => wpY_cell (fun r' v' => r' = r ∧ i_Rel (k + 5) u v') v v1) u v1) ?_ I
  intro xle xpe sta opn xch xck xbc xcb xcc col res yh yd cp lm np nt fr sb us bo oc pm vs mk fi tk xo xj ow xh xk xl fp fa fh cb gl xbk xbp xbh sl cn cl cr fw ou yt yb ys yr lo st he nu lf rg hh kk dp pt hd R
  have J : i_Rel (k + 5) (xle, xpe, nI cp, nI lm, sta, nI np, opn, nI nt, xch, xck, xbc, nI fr, nI sb, nI us, xcb, xcc, col, nI bo, nI oc, res, sm_n pm, sm_n vs, sm_n mk, sm_k gl, sm_n fi, sm_n tk, sm_n xo, sm_n (sm_ar tk), sm_n xj, sm_n ow, sm_n xh, sm_n xk, sm_n xl, xbk, xbp, xbh, sm_n fp, sm_n fa, sl, cn, cl, cr, sm_n cb, fw, ou) (nI cp, nI lm, sta, nI np, opn, nI nt, yh, yd, nI fr, nI bo, col, nI oc, res, sm_n tk, sm_n fi, sm_n pm, sm_n vs, sm_n mk, sm_k gl, yt, yb, ys, yr, sm_n fp, sm_n fa, sm_n fh, lo, st, he, nu, lf, rg, ou) := sm_in R
  obtain ⟨⟨l1, l2, l3⟩, hmk, hP, hxx, H, h0, h1, h2⟩ := id R
  obtain ⟨⟨p1, p2, p3, p4, psb⟩, q1, q2, q3⟩ := id H
  by_cases c1 : v1 < 1
  · exact br_t c1 (br_t c1 ⟨rfl, J⟩)
  by_cases c2 : v1 ≤ nI bo
  rotate_left
  · exact br_f c1 (br_f c2 (br_f c1 (br_f c2 ⟨rfl, J⟩)))
  obtain ⟨b, b1, rfl⟩ := nI_of (x := v1) (fun z => c1 (Int32.lt_trans z (by decide)))
  have e1 : 1 ≤ b := by rw [sm_lt1 b1] at c1; omega
  have e2 : b ≤ bo := (nI_leI b1 (by omega)).mp c2
  have vb : vp_in (nI b) 121 := vp_in_nI (by omega) (by decide)
  have cb1 : (nI b).toNatClampNeg = b := nI_clamp (by omega)
  have AD := fun (post : Int32 → Prop) h1 h0 => sm_xad (post := post) (xle := xle) (xpe := xpe) (cp := cp) (lm := lm) (sta := sta) (np := np) (opn := opn) (nt := nt) (xch := xch) (xck := xck) (xbc := xbc) (fr := fr) (xcb := xcb) (xcc := xcc) (col := col) (bo := bo) (oc := oc) (res := res) (pm := pm) (vs := vs) (mk := mk) (gl := gl) (fi := fi) (tk := tk) (xo := xo) (xj := xj) (ow := ow) (xh := xh) (xk := xk) (xl := xl) (xbk := xbk) (xbp := xbp) (xbh := xbh) (fp := fp) (fa := fa) (sl := sl) (cn := cn) (cl := cl) (cr := cr) (fw := fw) (ou := ou) (us := us) (sb := sb) (cb := cb) (b := b) (by omega) (by omega) e1 (by omega) (fun c hc => by have := (q1 c hc).2.1; omega) q2 h1 h0
  by_cases hs : sta = 2
  rotate_left
  · refine br_f c1 (br_t c2 (AD _ (fun c hc ec => ?_) (fun hn => ?_)))
    · obtain ⟨d1, d2, d3, _⟩ := q1 c hc
      rw [ec] at d3
      refine br_f (nI_ne0 (by omega) (by omega)) (br_f hs (br_f c1 (br_t c2 (br_f hs (And.intro vb ?_)))))
      rw [cb1]
      exact br_f d3 ⟨rfl, J⟩
    · have hz : he b = 0 := by
        by_cases z : he b = 0
        · exact z
        · obtain ⟨c, c5, c6⟩ := q3 b e1 e2 z
          exact absurd c6 (hn c c5)
      refine br_t rfl (br_f c1 (br_t c2 (br_f hs (And.intro vb ?_))))
      rw [cb1]
      exact br_t hz ⟨rfl, J⟩
  subst hs
  obtain ⟨rfl, n1, hL⟩ := h1 (by decide)
  obtain ⟨r1, r2, hF⟩ := h2 rfl
  have hxl : ∀ i, i < nt → xl i < 256 := fun i hi => (hL i hi).1
  refine br_f c1 (br_t c2 (AD _ (fun c hc ec => ?_) (fun hn => ?_)))
  · obtain ⟨d1, d2, d3, _⟩ := q1 c hc
    rw [ec] at d3
    have hQ : sm_Q (sm_RX fr us sb mk kk xl fp fa fh sl cl cr) us sb cb b ↔ sm_RX fr us sb mk kk xl fp fa fh sl cl cr c := by
      constructor
      · rintro ⟨d, e3, e4, e5⟩
        rw [← q2 d c e3 hc (by rw [e4, ec])]
        exact e5
      · exact fun z => ⟨c, hc, ec, z⟩
    refine br_f (nI_ne0 (by omega) (by omega)) (br_t rfl (sm_xrc hP hxx hxl (by omega) (by omega) (by omega) hF (sm_hv H) (fun M hM hMb => ?_)))
    refine sm_xcb (by omega) (by omega) (Or.inr ⟨c, hc, rfl⟩) (fun z => absurd z (nI_ne0 (by omega) (by omega))) (fun d hd ed => ?_)
    have edc := sm_inj (by omega) (by omega) (by omega) ed
    subst edc
    rw [sm_and]
    have hbit : (nI (M &&& 2 ^ c) = 0) ↔ M.testBit c = false := by
      cases hb : M.testBit c
      · have e0 : M &&& 2 ^ c = 0 := Nat.eq_of_testBit_eq (fun q => by
          rw [Nat.testBit_and, Nat.testBit_two_pow, Nat.zero_testBit]
          by_cases ecq : c = q
          · rw [← ecq, hb]; rfl
          · rw [decide_eq_false ecq, Bool.and_false])
        rw [e0]
        exact ⟨fun _ => rfl, fun _ => rfl⟩
      · have p16 : 2 ^ c < 2 ^ 31 := Nat.pow_lt_pow_right (by decide) (by omega)
        have hle : M &&& 2 ^ c ≤ 2 ^ c := Nat.and_le_right
        have hne : M &&& 2 ^ c ≠ 0 := fun z => by
          have t : (M &&& 2 ^ c).testBit c = true := by rw [Nat.testBit_and, hb, Nat.testBit_two_pow, decide_eq_true rfl]; rfl
          rw [z, Nat.zero_testBit] at t
          cases t
        exact ⟨fun z => absurd z (nI_ne0 (by omega) (by omega)), fun z => by cases z⟩
    refine ek_if hbit (fun hb => ?_) (fun hb => ?_)
    · have nx : ¬ sm_RX fr us sb mk kk xl fp fa fh sl cl cr c := fun z => by rw [(hMb c hc).mpr z] at hb; cases hb
      refine br_f c1 (br_t c2 (br_t rfl (sm_ymark hP hL hmk (by omega) H hF (fun yh yd yt yb ys yr hy => And.intro vb ?_))))
      rw [cb1]
      have hy0 : yr b = 0 := by
        by_cases z : yr b = 0
        · exact z
        · exact absurd (hQ.mp ((hy b e1 e2).mp z)) nx
      refine br_t hy0 (And.intro vb ?_)
      rw [cb1]
      exact br_f d3 ⟨rfl, sm_in R⟩
    · have hx : sm_RX fr us sb mk kk xl fp fa fh sl cl cr c := (hMb c hc).mp (by
        cases w : M.testBit c
        · exact absurd w hb
        · rfl)
      refine br_f c1 (br_t c2 (br_t rfl (sm_ymark hP hL hmk (by omega) H hF (fun yh yd yt yb ys yr hy => And.intro vb ?_))))
      rw [cb1]
      exact br_f ((hy b e1 e2).mpr (hQ.mpr hx)) ⟨rfl, sm_in R⟩
  · have hz : he b = 0 := by
      by_cases z : he b = 0
      · exact z
      · obtain ⟨c, c5, c6⟩ := q3 b e1 e2 z
        exact absurd c6 (hn c c5)
    refine br_t rfl (br_f c1 (br_t c2 (br_t rfl (sm_ymark hP hL hmk (by omega) H hF (fun yh yd yt yb ys yr hy => And.intro vb ?_)))))
    rw [cb1]
    have hy0 : yr b = 0 := by
      by_cases z : yr b = 0
      · exact z
      · obtain ⟨c, c5, c6, _⟩ := (hy b e1 e2).mp z
        exact absurd c6 (hn c c5)
    refine br_t hy0 (And.intro vb ?_)
    rw [cb1]
    exact br_t hz ⟨rfl, sm_in R⟩
end
end
