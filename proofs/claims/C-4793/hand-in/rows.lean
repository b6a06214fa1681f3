section
/-! pure rows to paste: stores, nI and lN arithmetic, masks, shifts, narrowing, branches by naturals (pk_le, pk_lt, pk_eq), loops (lp1 .. lp16: the measure of the state; rp1 ..: recursion), negatives. Take what you need -/
theorem pk_us {f : Nat → Int32} {k : Nat} {x : Int32} : upd f k x k = x := if_pos rfl
theorem pk_un {f : Nat → Int32} {k j : Nat} {x : Int32} (h : j ≠ k) : upd f k x j = f j := if_neg h
theorem pk_uLs {f : Nat → Int64} {k : Nat} {x : Int64} : vp_updL f k x k = x := if_pos rfl
theorem pk_uLn {f : Nat → Int64} {k j : Nat} {x : Int64} (h : j ≠ k) : vp_updL f k x j = f j := if_neg h
theorem pk_sub {a b : Nat} (h : b ≤ a) : nI a - nI b = nI (a - b) := by
  obtain ⟨c, rfl⟩ : ∃ c, a = c + b := ⟨a - b, by omega⟩
  rw [← nI_add, Int32.add_sub_cancel, Nat.add_sub_cancel]
theorem pk_m1 (n : Nat) : nI (n + 1) + (-1) = nI n := by
  rw [← nI_1, Int32.add_assoc, show (1 : Int32) + (-1) = 0 from rfl, Int32.add_zero]
theorem pk_mul (a b : Nat) : nI a * nI b = nI (a * b) := (Int32.ofNat_mul a b).symm
theorem pk_div {a d : Nat} (ha : a < 2 ^ 31) (h0 : 0 < d) (hd : d < 2 ^ 31) : nI a / nI d = nI (a / d) := by
  apply Int32.toInt_inj.mp
  rw [lg_idiv_nonneg (by rw [nI_toInt ha]; omega) (by rw [nI_toInt hd]; omega), nI_toInt ha, nI_toInt hd, nI_toInt (Nat.lt_of_le_of_lt (Nat.div_le_self a d) ha)]
  first | rfl | exact (Int.natCast_ediv _ _).symm
theorem pk_rem {a d : Nat} (ha : a < 2 ^ 31) (h0 : 0 < d) (hd : d < 2 ^ 31) : nI a - nI a / nI d * nI d = nI (a % d) := by
  rw [pk_div ha h0 hd, pk_mul, pk_sub (Nat.div_mul_le_self a d)]
  exact congrArg nI (by have := Nat.div_add_mod' a d; omega)
theorem pk_sub_toInt {a b : Nat} (ha : a < 2 ^ 30) (hb : b < 2 ^ 30) : (nI a - nI b).toInt = (a : Int) - b := by
  rw [Int32.toInt_sub, nI_toInt (by omega), nI_toInt (by omega)]
  exact Int.bmod_eq_of_le (by omega) (by omega)
theorem pk_sneg {a b : Nat} (hb : b < 2 ^ 30) (h : a < b) : nI a - nI b < 0 := by
  rw [Int32.lt_iff_toInt_lt, pk_sub_toInt (by omega) hb, show (0 : Int32).toInt = 0 from by decide]
  omega
theorem pk_ix (x : Int32) {n : Nat} (hn : n < 2 ^ 31) : x < 0 ∨ nI n ≤ x ∨ ∃ j : Nat, j < n ∧ x = nI j := by
  by_cases h : x < 0
  · exact Or.inl h
  · obtain ⟨j, hj, rfl⟩ := nI_of h
    by_cases h2 : j < n
    · exact Or.inr (Or.inr ⟨j, h2, rfl⟩)
    · exact Or.inr (Or.inl (nI_le (by omega) hj))
theorem pk_le {x y : Int32} {A B : Prop} (a b : Nat) (f : a ≤ b → A) (g : b < a → B) (hx : x = nI a := by rfl) (hy : y = nI b := by rfl) (ha : a < 2 ^ 31 := by omega) (hb : b < 2 ^ 31 := by omega) : (x ≤ y → A) ∧ (¬ x ≤ y → B) := by
  subst hx hy
  rw [nI_leI ha hb]
  exact ⟨f, fun z => g (by omega)⟩
theorem pk_lt {x y : Int32} {A B : Prop} (a b : Nat) (f : a < b → A) (g : b ≤ a → B) (hx : x = nI a := by rfl) (hy : y = nI b := by rfl) (ha : a < 2 ^ 31 := by omega) (hb : b < 2 ^ 31 := by omega) : (x < y → A) ∧ (¬ x < y → B) := by
  subst hx hy
  rw [nI_ltI ha hb]
  exact ⟨f, fun z => g (by omega)⟩
theorem pk_eq {x y : Int32} {A B : Prop} (a b : Nat) (f : a = b → A) (g : a ≠ b → B) (hx : x = nI a := by rfl) (hy : y = nI b := by rfl) (ha : a < 2 ^ 31 := by omega) (hb : b < 2 ^ 31 := by omega) : (x = y → A) ∧ (¬ x = y → B) := by
  subst hx hy
  rw [nI_eq ha hb]
  exact ⟨f, g⟩
theorem pk_in {x : Int32} (n N : Nat) (h : n < N) (hx : x = nI n := by rfl) (hN : N < 2 ^ 31 := by omega) : vp_in x N := by
  subst hx
  exact vp_in_nI h hN
theorem pk_cl {x : Int32} (n : Nat) (hx : x = nI n := by rfl) (h : n < 2 ^ 31 := by omega) : x.toNatClampNeg = n := by
  subst hx
  exact nI_clamp h
theorem pk_tn {n : Nat} (h : n < 2 ^ 32) : (nI n).toBitVec.toNat = n := Nat.mod_eq_of_lt h
theorem pk_and (x : Int32) {m : Int32} (k : Nat) (hm : m.toBitVec.toNat = 2 ^ k - 1) : x &&& m = nI (x.toBitVec.toNat % 2 ^ k) := by
  apply Int32.toBitVec_inj.mp
  apply BitVec.eq_of_toNat_eq
  rw [Int32.toBitVec_and, BitVec.toNat_and, hm, Nat.and_two_pow_sub_one_eq_mod]
  show _ = (BitVec.ofNat 32 _).toNat
  rw [BitVec.toNat_ofNat]
  exact (Nat.mod_eq_of_lt (Nat.lt_of_le_of_lt (Nat.mod_le _ _) x.toBitVec.isLt)).symm
theorem pk_andN {n : Nat} (h : n < 2 ^ 32) {m : Int32} (k : Nat) (hm : m.toBitVec.toNat = 2 ^ k - 1) : nI n &&& m = nI (n % 2 ^ k) := by
  rw [pk_and _ k hm, pk_tn h]
theorem pk_andE (x : Int32) {m : Int32} (k : Nat) (hm : m.toBitVec.toNat = 2 ^ k - 1) : ∃ j : Nat, j < 2 ^ k ∧ x &&& m = nI j := ⟨_, Nat.mod_lt _ (Nat.two_pow_pos k), pk_and x k hm⟩
theorem pk_andIn (x : Int32) {m : Int32} (k : Nat) (hm : m.toBitVec.toNat = 2 ^ k - 1) (hk : k ≤ 30) : vp_in (x &&& m) (2 ^ k) := by
  obtain ⟨j, hj, e⟩ := pk_andE x k hm
  rw [e]
  exact vp_in_nI hj (Nat.lt_of_le_of_lt (Nat.pow_le_pow_right (by decide) hk) (by decide))
theorem pk_shl (a s : Int32) (k : Nat) (hs : (s.toBitVec.smod 32).toNat = k) : (a <<< s).toBitVec.toNat = a.toBitVec.toNat * 2 ^ k % 2 ^ 32 := by
  show (a.toBitVec <<< (s.toBitVec.smod 32).toNat).toNat = _
  rw [hs, BitVec.toNat_shiftLeft, Nat.shiftLeft_eq]
theorem pk_shlN {n : Nat} (s : Int32) (k : Nat) (hs : (s.toBitVec.smod 32).toNat = k) (h : n * 2 ^ k < 2 ^ 32) : nI n <<< s = nI (n * 2 ^ k) := by
  apply Int32.toBitVec_inj.mp
  apply BitVec.eq_of_toNat_eq
  have hn : n < 2 ^ 32 := Nat.lt_of_le_of_lt (Nat.le_mul_of_pos_right n (Nat.two_pow_pos k)) h
  rw [pk_shl _ _ k hs, pk_tn hn, pk_tn h, Nat.mod_eq_of_lt h]
theorem pk_shr (a s : Int32) (k : Nat) (hs : (s.toBitVec.smod 32).toNat = k) : (a >>> s).toInt = a.toInt >>> k := by
  show (a.toBitVec.sshiftRight (s.toBitVec.smod 32).toNat).toInt = _
  rw [hs, BitVec.toInt_sshiftRight]
  rfl
theorem pk_shrN {n : Nat} (h : n < 2 ^ 31) (s : Int32) (k : Nat) (hs : (s.toBitVec.smod 32).toNat = k) : nI n >>> s = nI (n / 2 ^ k) := by
  apply Int32.toInt_inj.mp
  have h2 : n / 2 ^ k ≤ n := Nat.div_le_self _ _
  rw [pk_shr _ _ k hs, nI_toInt h, nI_toInt (by omega), Int.shiftRight_eq_div_pow]
  rfl
theorem pk_ushr (x s : Int32) (k : Nat) (hs : ((s.toUInt32 &&& Int32.toUInt32 31).toBitVec % 32).toNat = k) : (x.toUInt32 >>> (s.toUInt32 &&& Int32.toUInt32 31)).toInt32.toBitVec.toNat = x.toBitVec.toNat / 2 ^ k := by
  have e : (x.toUInt32 >>> (s.toUInt32 &&& Int32.toUInt32 31)).toInt32.toBitVec = x.toBitVec >>> k := by
    rw [← hs]
    exact UInt32.toBitVec_shiftRight _ _
  rw [e, BitVec.toNat_ushiftRight, Nat.shiftRight_eq_div_pow]
theorem pk_ushrN {n : Nat} (hn : n < 2 ^ 32) (s : Int32) (k : Nat) (hs : ((s.toUInt32 &&& Int32.toUInt32 31).toBitVec % 32).toNat = k) : ((nI n).toUInt32 >>> (s.toUInt32 &&& Int32.toUInt32 31)).toInt32 = nI (n / 2 ^ k) := by
  apply Int32.toBitVec_inj.mp
  apply BitVec.eq_of_toNat_eq
  rw [pk_ushr _ s k hs, pk_tn hn, pk_tn (Nat.lt_of_le_of_lt (Nat.div_le_self _ _) hn)]
theorem pk_nb (z : Int32) : narrow .byte (.int z.toInt8.toInt32) = .int z.toInt8.toInt32 := congrArg Value.int (by simp)
theorem pk_ns (z : Int32) : narrow .short (.int z.toInt16.toInt32) = .int z.toInt16.toInt32 := congrArg Value.int (by simp)
theorem pk_fb (r : Int32) : fits .byte (.int r.toInt8.toInt32) = true := by
  have ⟨a, b⟩ := lg_i2b_range r
  have h1 : (-128 : Int32).toInt = -128 := by decide
  have h2 : (127 : Int32).toInt = 127 := by decide
  simp only [fits, Bool.and_eq_true, decide_eq_true_eq, Int32.le_iff_toInt_le, h1, h2]
  omega
theorem pk_fs (r : Int32) : fits .short (.int r.toInt16.toInt32) = true := by
  have ⟨a, b⟩ := lg_i2s_range r
  have h1 : (-32768 : Int32).toInt = -32768 := by decide
  have h2 : (32767 : Int32).toInt = 32767 := by decide
  simp only [fits, Bool.and_eq_true, decide_eq_true_eq, Int32.le_iff_toInt_le, h1, h2]
  omega
theorem pk_charN {q : Nat} (hq : q < 65536) : narrow .char (.int (nI q)) = .int (nI q) ∧ fits .char (.int (nI q)) = true := by
  constructor
  · have e : (nI q).toUInt32.toUInt16.toUInt32.toInt32 = nI q := by
      apply Int32.toBitVec_inj.mp
      apply BitVec.eq_of_toNat_eq
      show (nI q).toUInt32.toUInt16.toUInt32.toNat = q % 2 ^ 32
      rw [UInt16.toNat_toUInt32, UInt32.toNat_toUInt16, show (nI q).toUInt32.toNat = q % 2 ^ 32 from rfl]
      omega
    exact congrArg Value.int e
  · have a : (0 : Int32) ≤ nI q := nI_pos' (by omega)
    have b : nI q ≤ 65535 := nI_le (b := 65535) (by omega) (by decide)
    show (decide ((0 : Int32) ≤ nI q) && decide (nI q ≤ 65535)) = true
    rw [decide_eq_true a, decide_eq_true b]
    rfl
theorem pk_char (x : Int32) : (x.toUInt32 % 65536).toInt32 = nI (x.toBitVec.toNat % 65536) := by
  apply Int32.toBitVec_inj.mp
  apply BitVec.eq_of_toNat_eq
  rw [pk_tn (by omega)]
  show (x.toUInt32 % 65536).toNat = _
  rw [UInt32.toNat_mod]
  rfl
theorem pk_nc (x : Int32) : narrow .char (.int (x.toUInt32 % 65536).toInt32) = .int (x.toUInt32 % 65536).toInt32 := by
  rw [pk_char]
  exact (pk_charN (Nat.mod_lt _ (by decide))).1
theorem pk_fc (x : Int32) : fits .char (.int (x.toUInt32 % 65536).toInt32) = true := by
  rw [pk_char]
  exact (pk_charN (Nat.mod_lt _ (by decide))).2
theorem pk_vb (z : Int32) : vp_nar .byte z.toInt8.toInt32 = z.toInt8.toInt32 := by rw [vp_nar_byte]; simp
theorem pk_vs (z : Int32) : vp_nar .short z.toInt16.toInt32 = z.toInt16.toInt32 := by rw [vp_nar_short]; simp
theorem pk_vc (z : Int32) : vp_nar .char (z.toUInt32 % 65536).toInt32 = (z.toUInt32 % 65536).toInt32 := Value.int.inj (pk_nc z)
theorem pk_lT {n : Nat} (h : n < 2 ^ 63) : (lN n).toInt = (n : Int) := lg_ofNat_toInt h
theorem pk_lLT {a b : Nat} (ha : a < 2 ^ 63) (hb : b < 2 ^ 63) : lN a < lN b ↔ a < b := by
  rw [Int64.lt_iff_toInt_lt, pk_lT ha, pk_lT hb]; omega
theorem pk_lLE {a b : Nat} (ha : a < 2 ^ 63) (hb : b < 2 ^ 63) : lN a ≤ lN b ↔ a ≤ b := by
  rw [Int64.le_iff_toInt_le, pk_lT ha, pk_lT hb]; omega
theorem pk_lEQ {a b : Nat} (ha : a < 2 ^ 63) (hb : b < 2 ^ 63) : lN a = lN b ↔ a = b := by
  rw [← Int64.toInt_inj, pk_lT ha, pk_lT hb]; omega
theorem pk_lOf {x : Int64} (h : ¬ x < 0) : ∃ k : Nat, k < 2 ^ 63 ∧ x = lN k := by
  rw [Int64.lt_iff_toInt_lt] at h
  have h0 : (0 : Int64).toInt = 0 := by decide
  have hx := Int64.toInt_lt x
  refine ⟨x.toInt.toNat, by omega, Int64.toInt_inj.mp ?_⟩
  rw [pk_lT (by omega)]
  omega
theorem pk_lDiv {a b : Nat} (ha : a < 2 ^ 63) (h0 : 0 < b) (hb : b < 2 ^ 63) : lN a / lN b = lN (a / b) := by
  apply Int64.toInt_inj.mp
  rw [lg_ldiv_nonneg (by rw [pk_lT ha]; omega) (by rw [pk_lT hb]; omega), pk_lT ha, pk_lT hb, pk_lT (Nat.lt_of_le_of_lt (Nat.div_le_self a b) ha)]
  rfl
theorem pk_lRem {a b : Nat} (ha : a < 2 ^ 63) (h0 : 0 < b) (hb : b < 2 ^ 63) : lN a - lN a / lN b * lN b = lN (a % b) := by
  rw [pk_lDiv ha h0 hb, lN_mul, lN_sub (Nat.div_mul_le_self a b)]
  exact congrArg lN (by have := Nat.div_add_mod' a b; omega)
theorem pk_loop {σ : Type} (W : Nat → Nat → σ → Prop) (I : Nat → σ → Prop) (e i0 : Nat) (s : σ) (hi : i0 ≤ e) (h0 : I i0 s) (hx : ∀ n s, I e s → W (n + 1) e s)
    (hs : ∀ n i s, i < e → I i s → (∀ s', I (i + 1) s' → W n (i + 1) s') → W (n + 1) i s) : ∃ n, W n i0 s :=
  ⟨e + 1, loop_i W I e hx hs (e + 1) i0 s hi (by omega) h0⟩
theorem pk_loopD {σ : Type} (W : Nat → Nat → σ → Prop) (I : Nat → σ → Prop) (hx : ∀ n s, I 0 s → W (n + 1) 0 s)
    (hs : ∀ n i s, I (i + 1) s → (∀ s', I i s' → W n i s') → W (n + 1) (i + 1) s) : ∀ (e : Nat) (s : σ), I e s → W (e + 1) e s := by
  intro e
  induction e with
  | zero => exact fun s h => hx 0 s h
  | succ e ih => exact fun s h => hs (e + 1) e s h (fun s' h' => ih s' h')
theorem lp1 {A1 : Type} (W : Nat → A1 → Prop) (I : A1 → Prop) (μ : A1 → Nat) (hs : ∀ (n : Nat) (a1 : A1), I a1 → (∀ (b1 : A1), I b1 → μ b1 < μ a1 → W n b1) → W (n + 1) a1) (a1 : A1) (h : I a1) : ∃ n, W n a1 :=
  loop_m (σ := A1) (fun n s => W n s) (fun s => I s) (fun s => μ s) (fun n s hI hk => hs n s hI (fun b1 h9 hm => hk b1 h9 hm)) a1 h
theorem lp2 {A1 A2 : Type} (W : Nat → A1 → A2 → Prop) (I : A1 → A2 → Prop) (μ : A1 → A2 → Nat) (hs : ∀ (n : Nat) (a1 : A1) (a2 : A2), I a1 a2 → (∀ (b1 : A1) (b2 : A2), I b1 b2 → μ b1 b2 < μ a1 a2 → W n b1 b2) → W (n + 1) a1 a2) (a1 : A1) (a2 : A2) (h : I a1 a2) : ∃ n, W n a1 a2 :=
  loop_m (σ := A1 × A2) (fun n s => W n s.1 s.2) (fun s => I s.1 s.2) (fun s => μ s.1 s.2) (fun n s hI hk => hs n s.1 s.2 hI (fun b1 b2 h9 hm => hk (b1, b2) h9 hm)) (a1, a2) h
theorem lp3 {A1 A2 A3 : Type} (W : Nat → A1 → A2 → A3 → Prop) (I : A1 → A2 → A3 → Prop) (μ : A1 → A2 → A3 → Nat) (hs : ∀ (n : Nat) (a1 : A1) (a2 : A2) (a3 : A3), I a1 a2 a3 → (∀ (b1 : A1) (b2 : A2) (b3 : A3), I b1 b2 b3 → μ b1 b2 b3 < μ a1 a2 a3 → W n b1 b2 b3) → W (n + 1) a1 a2 a3) (a1 : A1) (a2 : A2) (a3 : A3) (h : I a1 a2 a3) : ∃ n, W n a1 a2 a3 :=
  loop_m (σ := A1 × A2 × A3) (fun n s => W n s.1 s.2.1 s.2.2) (fun s => I s.1 s.2.1 s.2.2) (fun s => μ s.1 s.2.1 s.2.2) (fun n s hI hk => hs n s.1 s.2.1 s.2.2 hI (fun b1 b2 b3 h9 hm => hk (b1, b2, b3) h9 hm)) (a1, a2, a3) h
theorem lp4 {A1 A2 A3 A4 : Type} (W : Nat → A1 → A2 → A3 → A4 → Prop) (I : A1 → A2 → A3 → A4 → Prop) (μ : A1 → A2 → A3 → A4 → Nat) (hs : ∀ (n : Nat) (a1 : A1) (a2 : A2) (a3 : A3) (a4 : A4), I a1 a2 a3 a4 → (∀ (b1 : A1) (b2 : A2) (b3 : A3) (b4 : A4), I b1 b2 b3 b4 → μ b1 b2 b3 b4 < μ a1 a2 a3 a4 → W n b1 b2 b3 b4) → W (n + 1) a1 a2 a3 a4) (a1 : A1) (a2 : A2) (a3 : A3) (a4 : A4) (h : I a1 a2 a3 a4) : ∃ n, W n a1 a2 a3 a4 :=
  loop_m (σ := A1 × A2 × A3 × A4) (fun n s => W n s.1 s.2.1 s.2.2.1 s.2.2.2) (fun s => I s.1 s.2.1 s.2.2.1 s.2.2.2) (fun s => μ s.1 s.2.1 s.2.2.1 s.2.2.2) (fun n s hI hk => hs n s.1 s.2.1 s.2.2.1 s.2.2.2 hI (fun b1 b2 b3 b4 h9 hm => hk (b1, b2, b3, b4) h9 hm)) (a1, a2, a3, a4) h
theorem lp5 {A1 A2 A3 A4 A5 : Type} (W : Nat → A1 → A2 → A3 → A4 → A5 → Prop) (I : A1 → A2 → A3 → A4 → A5 → Prop) (μ : A1 → A2 → A3 → A4 → A5 → Nat) (hs : ∀ (n : Nat) (a1 : A1) (a2 : A2) (a3 : A3) (a4 : A4) (a5 : A5), I a1 a2 a3 a4 a5 → (∀ (b1 : A1) (b2 : A2) (b3 : A3) (b4 : A4) (b5 : A5), I b1 b2 b3 b4 b5 → μ b1 b2 b3 b4 b5 < μ a1 a2 a3 a4 a5 → W n b1 b2 b3 b4 b5) → W (n + 1) a1 a2 a3 a4 a5) (a1 : A1) (a2 : A2) (a3 : A3) (a4 : A4) (a5 : A5) (h : I a1 a2 a3 a4 a5) : ∃ n, W n a1 a2 a3 a4 a5 :=
  loop_m (σ := A1 × A2 × A3 × A4 × A5) (fun n s => W n s.1 s.2.1 s.2.2.1 s.2.2.2.1 s.2.2.2.2) (fun s => I s.1 s.2.1 s.2.2.1 s.2.2.2.1 s.2.2.2.2) (fun s => μ s.1 s.2.1 s.2.2.1 s.2.2.2.1 s.2.2.2.2) (fun n s hI hk => hs n s.1 s.2.1 s.2.2.1 s.2.2.2.1 s.2.2.2.2 hI (fun b1 b2 b3 b4 b5 h9 hm => hk (b1, b2, b3, b4, b5) h9 hm)) (a1, a2, a3, a4, a5) h
theorem lp6 {A1 A2 A3 A4 A5 A6 : Type} (W : Nat → A1 → A2 → A3 → A4 → A5 → A6 → Prop) (I : A1 → A2 → A3 → A4 → A5 → A6 → Prop) (μ : A1 → A2 → A3 → A4 → A5 → A6 → Nat) (hs : ∀ (n : Nat) (a1 : A1) (a2 : A2) (a3 : A3) (a4 : A4) (a5 : A5) (a6 : A6), I a1 a2 a3 a4 a5 a6 → (∀ (b1 : A1) (b2 : A2) (b3 : A3) (b4 : A4) (b5 : A5) (b6 : A6), I b1 b2 b3 b4 b5 b6 → μ b1 b2 b3 b4 b5 b6 < μ a1 a2 a3 a4 a5 a6 → W n b1 b2 b3 b4 b5 b6) → W (n + 1) a1 a2 a3 a4 a5 a6) (a1 : A1) (a2 : A2) (a3 : A3) (a4 : A4) (a5 : A5) (a6 : A6) (h : I a1 a2 a3 a4 a5 a6) : ∃ n, W n a1 a2 a3 a4 a5 a6 :=
  loop_m (σ := A1 × A2 × A3 × A4 × A5 × A6) (fun n s => W n s.1 s.2.1 s.2.2.1 s.2.2.2.1 s.2.2.2.2.1 s.2.2.2.2.2) (fun s => I s.1 s.2.1 s.2.2.1 s.2.2.2.1 s.2.2.2.2.1 s.2.2.2.2.2) (fun s => μ s.1 s.2.1 s.2.2.1 s.2.2.2.1 s.2.2.2.2.1 s.2.2.2.2.2) (fun n s hI hk => hs n s.1 s.2.1 s.2.2.1 s.2.2.2.1 s.2.2.2.2.1 s.2.2.2.2.2 hI (fun b1 b2 b3 b4 b5 b6 h9 hm => hk (b1, b2, b3, b4, b5, b6) h9 hm)) (a1, a2, a3, a4, a5, a6) h
theorem lp7 {A1 A2 A3 A4 A5 A6 A7 : Type} (W : Nat → A1 → A2 → A3 → A4 → A5 → A6 → A7 → Prop) (I : A1 → A2 → A3 → A4 → A5 → A6 → A7 → Prop) (μ : A1 → A2 → A3 → A4 → A5 → A6 → A7 → Nat) (hs : ∀ (n : Nat) (a1 : A1) (a2 : A2) (a3 : A3) (a4 : A4) (a5 : A5) (a6 : A6) (a7 : A7), I a1 a2 a3 a4 a5 a6 a7 → (∀ (b1 : A1) (b2 : A2) (b3 : A3) (b4 : A4) (b5 : A5) (b6 : A6) (b7 : A7), I b1 b2 b3 b4 b5 b6 b7 → μ b1 b2 b3 b4 b5 b6 b7 < μ a1 a2 a3 a4 a5 a6 a7 → W n b1 b2 b3 b4 b5 b6 b7) → W (n + 1) a1 a2 a3 a4 a5 a6 a7) (a1 : A1) (a2 : A2) (a3 : A3) (a4 : A4) (a5 : A5) (a6 : A6) (a7 : A7) (h : I a1 a2 a3 a4 a5 a6 a7) : ∃ n, W n a1 a2 a3 a4 a5 a6 a7 :=
  loop_m (σ := A1 × A2 × A3 × A4 × A5 × A6 × A7) (fun n s => W n s.1 s.2.1 s.2.2.1 s.2.2.2.1 s.2.2.2.2.1 s.2.2.2.2.2.1 s.2.2.2.2.2.2) (fun s => I s.1 s.2.1 s.2.2.1 s.2.2.2.1 s.2.2.2.2.1 s.2.2.2.2.2.1 s.2.2.2.2.2.2) (fun s => μ s.1 s.2.1 s.2.2.1 s.2.2.2.1 s.2.2.2.2.1 s.2.2.2.2.2.1 s.2.2.2.2.2.2) (fun n s hI hk => hs n s.1 s.2.1 s.2.2.1 s.2.2.2.1 s.2.2.2.2.1 s.2.2.2.2.2.1 s.2.2.2.2.2.2 hI (fun b1 b2 b3 b4 b5 b6 b7 h9 hm => hk (b1, b2, b3, b4, b5, b6, b7) h9 hm)) (a1, a2, a3, a4, a5, a6, a7) h
theorem lp8 {A1 A2 A3 A4 A5 A6 A7 A8 : Type} (W : Nat → A1 → A2 → A3 → A4 → A5 → A6 → A7 → A8 → Prop) (I : A1 → A2 → A3 → A4 → A5 → A6 → A7 → A8 → Prop) (μ : A1 → A2 → A3 → A4 → A5 → A6 → A7 → A8 → Nat) (hs : ∀ (n : Nat) (a1 : A1) (a2 : A2) (a3 : A3) (a4 : A4) (a5 : A5) (a6 : A6) (a7 : A7) (a8 : A8), I a1 a2 a3 a4 a5 a6 a7 a8 → (∀ (b1 : A1) (b2 : A2) (b3 : A3) (b4 : A4) (b5 : A5) (b6 : A6) (b7 : A7) (b8 : A8), I b1 b2 b3 b4 b5 b6 b7 b8 → μ b1 b2 b3 b4 b5 b6 b7 b8 < μ a1 a2 a3 a4 a5 a6 a7 a8 → W n b1 b2 b3 b4 b5 b6 b7 b8) → W (n + 1) a1 a2 a3 a4 a5 a6 a7 a8) (a1 : A1) (a2 : A2) (a3 : A3) (a4 : A4) (a5 : A5) (a6 : A6) (a7 : A7) (a8 : A8) (h : I a1 a2 a3 a4 a5 a6 a7 a8) : ∃ n, W n a1 a2 a3 a4 a5 a6 a7 a8 :=
  loop_m (σ := A1 × A2 × A3 × A4 × A5 × A6 × A7 × A8) (fun n s => W n s.1 s.2.1 s.2.2.1 s.2.2.2.1 s.2.2.2.2.1 s.2.2.2.2.2.1 s.2.2.2.2.2.2.1 s.2.2.2.2.2.2.2) (fun s => I s.1 s.2.1 s.2.2.1 s.2.2.2.1 s.2.2.2.2.1 s.2.2.2.2.2.1 s.2.2.2.2.2.2.1 s.2.2.2.2.2.2.2) (fun s => μ s.1 s.2.1 s.2.2.1 s.2.2.2.1 s.2.2.2.2.1 s.2.2.2.2.2.1 s.2.2.2.2.2.2.1 s.2.2.2.2.2.2.2) (fun n s hI hk => hs n s.1 s.2.1 s.2.2.1 s.2.2.2.1 s.2.2.2.2.1 s.2.2.2.2.2.1 s.2.2.2.2.2.2.1 s.2.2.2.2.2.2.2 hI (fun b1 b2 b3 b4 b5 b6 b7 b8 h9 hm => hk (b1, b2, b3, b4, b5, b6, b7, b8) h9 hm)) (a1, a2, a3, a4, a5, a6, a7, a8) h
theorem lp9 {A1 A2 A3 A4 A5 A6 A7 A8 A9 : Type} (W : Nat → A1 → A2 → A3 → A4 → A5 → A6 → A7 → A8 → A9 → Prop) (I : A1 → A2 → A3 → A4 → A5 → A6 → A7 → A8 → A9 → Prop) (μ : A1 → A2 → A3 → A4 → A5 → A6 → A7 → A8 → A9 → Nat) (hs : ∀ (n : Nat) (a1 : A1) (a2 : A2) (a3 : A3) (a4 : A4) (a5 : A5) (a6 : A6) (a7 : A7) (a8 : A8) (a9 : A9), I a1 a2 a3 a4 a5 a6 a7 a8 a9 → (∀ (b1 : A1) (b2 : A2) (b3 : A3) (b4 : A4) (b5 : A5) (b6 : A6) (b7 : A7) (b8 : A8) (b9 : A9), I b1 b2 b3 b4 b5 b6 b7 b8 b9 → μ b1 b2 b3 b4 b5 b6 b7 b8 b9 < μ a1 a2 a3 a4 a5 a6 a7 a8 a9 → W n b1 b2 b3 b4 b5 b6 b7 b8 b9) → W (n + 1) a1 a2 a3 a4 a5 a6 a7 a8 a9) (a1 : A1) (a2 : A2) (a3 : A3) (a4 : A4) (a5 : A5) (a6 : A6) (a7 : A7) (a8 : A8) (a9 : A9) (h : I a1 a2 a3 a4 a5 a6 a7 a8 a9) : ∃ n, W n a1 a2 a3 a4 a5 a6 a7 a8 a9 :=
  loop_m (σ := A1 × A2 × A3 × A4 × A5 × A6 × A7 × A8 × A9) (fun n s => W n s.1 s.2.1 s.2.2.1 s.2.2.2.1 s.2.2.2.2.1 s.2.2.2.2.2.1 s.2.2.2.2.2.2.1 s.2.2.2.2.2.2.2.1 s.2.2.2.2.2.2.2.2) (fun s => I s.1 s.2.1 s.2.2.1 s.2.2.2.1 s.2.2.2.2.1 s.2.2.2.2.2.1 s.2.2.2.2.2.2.1 s.2.2.2.2.2.2.2.1 s.2.2.2.2.2.2.2.2) (fun s => μ s.1 s.2.1 s.2.2.1 s.2.2.2.1 s.2.2.2.2.1 s.2.2.2.2.2.1 s.2.2.2.2.2.2.1 s.2.2.2.2.2.2.2.1 s.2.2.2.2.2.2.2.2) (fun n s hI hk => hs n s.1 s.2.1 s.2.2.1 s.2.2.2.1 s.2.2.2.2.1 s.2.2.2.2.2.1 s.2.2.2.2.2.2.1 s.2.2.2.2.2.2.2.1 s.2.2.2.2.2.2.2.2 hI (fun b1 b2 b3 b4 b5 b6 b7 b8 b9 h9 hm => hk (b1, b2, b3, b4, b5, b6, b7, b8, b9) h9 hm)) (a1, a2, a3, a4, a5, a6, a7, a8, a9) h
theorem lp10 {A1 A2 A3 A4 A5 A6 A7 A8 A9 A10 : Type} (W : Nat → A1 → A2 → A3 → A4 → A5 → A6 → A7 → A8 → A9 → A10 → Prop) (I : A1 → A2 → A3 → A4 → A5 → A6 → A7 → A8 → A9 → A10 → Prop) (μ : A1 → A2 → A3 → A4 → A5 → A6 → A7 → A8 → A9 → A10 → Nat) (hs : ∀ (n : Nat) (a1 : A1) (a2 : A2) (a3 : A3) (a4 : A4) (a5 : A5) (a6 : A6) (a7 : A7) (a8 : A8) (a9 : A9) (a10 : A10), I a1 a2 a3 a4 a5 a6 a7 a8 a9 a10 → (∀ (b1 : A1) (b2 : A2) (b3 : A3) (b4 : A4) (b5 : A5) (b6 : A6) (b7 : A7) (b8 : A8) (b9 : A9) (b10 : A10), I b1 b2 b3 b4 b5 b6 b7 b8 b9 b10 → μ b1 b2 b3 b4 b5 b6 b7 b8 b9 b10 < μ a1 a2 a3 a4 a5 a6 a7 a8 a9 a10 → W n b1 b2 b3 b4 b5 b6 b7 b8 b9 b10) → W (n + 1) a1 a2 a3 a4 a5 a6 a7 a8 a9 a10) (a1 : A1) (a2 : A2) (a3 : A3) (a4 : A4) (a5 : A5) (a6 : A6) (a7 : A7) (a8 : A8) (a9 : A9) (a10 : A10) (h : I a1 a2 a3 a4 a5 a6 a7 a8 a9 a10) : ∃ n, W n a1 a2 a3 a4 a5 a6 a7 a8 a9 a10 :=
  loop_m (σ := A1 × A2 × A3 × A4 × A5 × A6 × A7 × A8 × A9 × A10) (fun n s => W n s.1 s.2.1 s.2.2.1 s.2.2.2.1 s.2.2.2.2.1 s.2.2.2.2.2.1 s.2.2.2.2.2.2.1 s.2.2.2.2.2.2.2.1 s.2.2.2.2.2.2.2.2.1 s.2.2.2.2.2.2.2.2.2) (fun s => I s.1 s.2.1 s.2.2.1 s.2.2.2.1 s.2.2.2.2.1 s.2.2.2.2.2.1 s.2.2.2.2.2.2.1 s.2.2.2.2.2.2.2.1 s.2.2.2.2.2.2.2.2.1 s.2.2.2.2.2.2.2.2.2) (fun s => μ s.1 s.2.1 s.2.2.1 s.2.2.2.1 s.2.2.2.2.1 s.2.2.2.2.2.1 s.2.2.2.2.2.2.1 s.2.2.2.2.2.2.2.1 s.2.2.2.2.2.2.2.2.1 s.2.2.2.2.2.2.2.2.2) (fun n s hI hk => hs n s.1 s.2.1 s.2.2.1 s.2.2.2.1 s.2.2.2.2.1 s.2.2.2.2.2.1 s.2.2.2.2.2.2.1 s.2.2.2.2.2.2.2.1 s.2.2.2.2.2.2.2.2.1 s.2.2.2.2.2.2.2.2.2 hI (fun b1 b2 b3 b4 b5 b6 b7 b8 b9 b10 h9 hm => hk (b1, b2, b3, b4, b5, b6, b7, b8, b9, b10) h9 hm)) (a1, a2, a3, a4, a5, a6, a7, a8, a9, a10) h
theorem lp11 {A1 A2 A3 A4 A5 A6 A7 A8 A9 A10 A11 : Type} (W : Nat → A1 → A2 → A3 → A4 → A5 → A6 → A7 → A8 → A9 → A10 → A11 → Prop) (I : A1 → A2 → A3 → A4 → A5 → A6 → A7 → A8 → A9 → A10 → A11 → Prop) (μ : A1 → A2 → A3 → A4 → A5 → A6 → A7 → A8 → A9 → A10 → A11 → Nat) (hs : ∀ (n : Nat) (a1 : A1) (a2 : A2) (a3 : A3) (a4 : A4) (a5 : A5) (a6 : A6) (a7 : A7) (a8 : A8) (a9 : A9) (a10 : A10) (a11 : A11), I a1 a2 a3 a4 a5 a6 a7 a8 a9 a10 a11 → (∀ (b1 : A1) (b2 : A2) (b3 : A3) (b4 : A4) (b5 : A5) (b6 : A6) (b7 : A7) (b8 : A8) (b9 : A9) (b10 : A10) (b11 : A11), I b1 b2 b3 b4 b5 b6 b7 b8 b9 b10 b11 → μ b1 b2 b3 b4 b5 b6 b7 b8 b9 b10 b11 < μ a1 a2 a3 a4 a5 a6 a7 a8 a9 a10 a11 → W n b1 b2 b3 b4 b5 b6 b7 b8 b9 b10 b11) → W (n + 1) a1 a2 a3 a4 a5 a6 a7 a8 a9 a10 a11) (a1 : A1) (a2 : A2) (a3 : A3) (a4 : A4) (a5 : A5) (a6 : A6) (a7 : A7) (a8 : A8) (a9 : A9) (a10 : A10) (a11 : A11) (h : I a1 a2 a3 a4 a5 a6 a7 a8 a9 a10 a11) : ∃ n, W n a1 a2 a3 a4 a5 a6 a7 a8 a9 a10 a11 :=
  loop_m (σ := A1 × A2 × A3 × A4 × A5 × A6 × A7 × A8 × A9 × A10 × A11) (fun n s => W n s.1 s.2.1 s.2.2.1 s.2.2.2.1 s.2.2.2.2.1 s.2.2.2.2.2.1 s.2.2.2.2.2.2.1 s.2.2.2.2.2.2.2.1 s.2.2.2.2.2.2.2.2.1 s.2.2.2.2.2.2.2.2.2.1 s.2.2.2.2.2.2.2.2.2.2) (fun s => I s.1 s.2.1 s.2.2.1 s.2.2.2.1 s.2.2.2.2.1 s.2.2.2.2.2.1 s.2.2.2.2.2.2.1 s.2.2.2.2.2.2.2.1 s.2.2.2.2.2.2.2.2.1 s.2.2.2.2.2.2.2.2.2.1 s.2.2.2.2.2.2.2.2.2.2) (fun s => μ s.1 s.2.1 s.2.2.1 s.2.2.2.1 s.2.2.2.2.1 s.2.2.2.2.2.1 s.2.2.2.2.2.2.1 s.2.2.2.2.2.2.2.1 s.2.2.2.2.2.2.2.2.1 s.2.2.2.2.2.2.2.2.2.1 s.2.2.2.2.2.2.2.2.2.2) (fun n s hI hk => hs n s.1 s.2.1 s.2.2.1 s.2.2.2.1 s.2.2.2.2.1 s.2.2.2.2.2.1 s.2.2.2.2.2.2.1 s.2.2.2.2.2.2.2.1 s.2.2.2.2.2.2.2.2.1 s.2.2.2.2.2.2.2.2.2.1 s.2.2.2.2.2.2.2.2.2.2 hI (fun b1 b2 b3 b4 b5 b6 b7 b8 b9 b10 b11 h9 hm => hk (b1, b2, b3, b4, b5, b6, b7, b8, b9, b10, b11) h9 hm)) (a1, a2, a3, a4, a5, a6, a7, a8, a9, a10, a11) h
theorem lp12 {A1 A2 A3 A4 A5 A6 A7 A8 A9 A10 A11 A12 : Type} (W : Nat → A1 → A2 → A3 → A4 → A5 → A6 → A7 → A8 → A9 → A10 → A11 → A12 → Prop) (I : A1 → A2 → A3 → A4 → A5 → A6 → A7 → A8 → A9 → A10 → A11 → A12 → Prop) (μ : A1 → A2 → A3 → A4 → A5 → A6 → A7 → A8 → A9 → A10 → A11 → A12 → Nat) (hs : ∀ (n : Nat) (a1 : A1) (a2 : A2) (a3 : A3) (a4 : A4) (a5 : A5) (a6 : A6) (a7 : A7) (a8 : A8) (a9 : A9) (a10 : A10) (a11 : A11) (a12 : A12), I a1 a2 a3 a4 a5 a6 a7 a8 a9 a10 a11 a12 → (∀ (b1 : A1) (b2 : A2) (b3 : A3) (b4 : A4) (b5 : A5) (b6 : A6) (b7 : A7) (b8 : A8) (b9 : A9) (b10 : A10) (b11 : A11) (b12 : A12), I b1 b2 b3 b4 b5 b6 b7 b8 b9 b10 b11 b12 → μ b1 b2 b3 b4 b5 b6 b7 b8 b9 b10 b11 b12 < μ a1 a2 a3 a4 a5 a6 a7 a8 a9 a10 a11 a12 → W n b1 b2 b3 b4 b5 b6 b7 b8 b9 b10 b11 b12) → W (n + 1) a1 a2 a3 a4 a5 a6 a7 a8 a9 a10 a11 a12) (a1 : A1) (a2 : A2) (a3 : A3) (a4 : A4) (a5 : A5) (a6 : A6) (a7 : A7) (a8 : A8) (a9 : A9) (a10 : A10) (a11 : A11) (a12 : A12) (h : I a1 a2 a3 a4 a5 a6 a7 a8 a9 a10 a11 a12) : ∃ n, W n a1 a2 a3 a4 a5 a6 a7 a8 a9 a10 a11 a12 :=
  loop_m (σ := A1 × A2 × A3 × A4 × A5 × A6 × A7 × A8 × A9 × A10 × A11 × A12) (fun n s => W n s.1 s.2.1 s.2.2.1 s.2.2.2.1 s.2.2.2.2.1 s.2.2.2.2.2.1 s.2.2.2.2.2.2.1 s.2.2.2.2.2.2.2.1 s.2.2.2.2.2.2.2.2.1 s.2.2.2.2.2.2.2.2.2.1 s.2.2.2.2.2.2.2.2.2.2.1 s.2.2.2.2.2.2.2.2.2.2.2) (fun s => I s.1 s.2.1 s.2.2.1 s.2.2.2.1 s.2.2.2.2.1 s.2.2.2.2.2.1 s.2.2.2.2.2.2.1 s.2.2.2.2.2.2.2.1 s.2.2.2.2.2.2.2.2.1 s.2.2.2.2.2.2.2.2.2.1 s.2.2.2.2.2.2.2.2.2.2.1 s.2.2.2.2.2.2.2.2.2.2.2) (fun s => μ s.1 s.2.1 s.2.2.1 s.2.2.2.1 s.2.2.2.2.1 s.2.2.2.2.2.1 s.2.2.2.2.2.2.1 s.2.2.2.2.2.2.2.1 s.2.2.2.2.2.2.2.2.1 s.2.2.2.2.2.2.2.2.2.1 s.2.2.2.2.2.2.2.2.2.2.1 s.2.2.2.2.2.2.2.2.2.2.2) (fun n s hI hk => hs n s.1 s.2.1 s.2.2.1 s.2.2.2.1 s.2.2.2.2.1 s.2.2.2.2.2.1 s.2.2.2.2.2.2.1 s.2.2.2.2.2.2.2.1 s.2.2.2.2.2.2.2.2.1 s.2.2.2.2.2.2.2.2.2.1 s.2.2.2.2.2.2.2.2.2.2.1 s.2.2.2.2.2.2.2.2.2.2.2 hI (fun b1 b2 b3 b4 b5 b6 b7 b8 b9 b10 b11 b12 h9 hm => hk (b1, b2, b3, b4, b5, b6, b7, b8, b9, b10, b11, b12) h9 hm)) (a1, a2, a3, a4, a5, a6, a7, a8, a9, a10, a11, a12) h
theorem lp13 {A1 A2 A3 A4 A5 A6 A7 A8 A9 A10 A11 A12 A13 : Type} (W : Nat → A1 → A2 → A3 → A4 → A5 → A6 → A7 → A8 → A9 → A10 → A11 → A12 → A13 → Prop) (I : A1 → A2 → A3 → A4 → A5 → A6 → A7 → A8 → A9 → A10 → A11 → A12 → A13 → Prop) (μ : A1 → A2 → A3 → A4 → A5 → A6 → A7 → A8 → A9 → A10 → A11 → A12 → A13 → Nat) (hs : ∀ (n : Nat) (a1 : A1) (a2 : A2) (a3 : A3) (a4 : A4) (a5 : A5) (a6 : A6) (a7 : A7) (a8 : A8) (a9 : A9) (a10 : A10) (a11 : A11) (a12 : A12) (a13 : A13), I a1 a2 a3 a4 a5 a6 a7 a8 a9 a10 a11 a12 a13 → (∀ (b1 : A1) (b2 : A2) (b3 : A3) (b4 : A4) (b5 : A5) (b6 : A6) (b7 : A7) (b8 : A8) (b9 : A9) (b10 : A10) (b11 : A11) (b12 : A12) (b13 : A13), I b1 b2 b3 b4 b5 b6 b7 b8 b9 b10 b11 b12 b13 → μ b1 b2 b3 b4 b5 b6 b7 b8 b9 b10 b11 b12 b13 < μ a1 a2 a3 a4 a5 a6 a7 a8 a9 a10 a11 a12 a13 → W n b1 b2 b3 b4 b5 b6 b7 b8 b9 b10 b11 b12 b13) → W (n + 1) a1 a2 a3 a4 a5 a6 a7 a8 a9 a10 a11 a12 a13) (a1 : A1) (a2 : A2) (a3 : A3) (a4 : A4) (a5 : A5) (a6 : A6) (a7 : A7) (a8 : A8) (a9 : A9) (a10 : A10) (a11 : A11) (a12 : A12) (a13 : A13) (h : I a1 a2 a3 a4 a5 a6 a7 a8 a9 a10 a11 a12 a13) : ∃ n, W n a1 a2 a3 a4 a5 a6 a7 a8 a9 a10 a11 a12 a13 :=
  loop_m (σ := A1 × A2 × A3 × A4 × A5 × A6 × A7 × A8 × A9 × A10 × A11 × A12 × A13) (fun n s => W n s.1 s.2.1 s.2.2.1 s.2.2.2.1 s.2.2.2.2.1 s.2.2.2.2.2.1 s.2.2.2.2.2.2.1 s.2.2.2.2.2.2.2.1 s.2.2.2.2.2.2.2.2.1 s.2.2.2.2.2.2.2.2.2.1 s.2.2.2.2.2.2.2.2.2.2.1 s.2.2.2.2.2.2.2.2.2.2.2.1 s.2.2.2.2.2.2.2.2.2.2.2.2) (fun s => I s.1 s.2.1 s.2.2.1 s.2.2.2.1 s.2.2.2.2.1 s.2.2.2.2.2.1 s.2.2.2.2.2.2.1 s.2.2.2.2.2.2.2.1 s.2.2.2.2.2.2.2.2.1 s.2.2.2.2.2.2.2.2.2.1 s.2.2.2.2.2.2.2.2.2.2.1 s.2.2.2.2.2.2.2.2.2.2.2.1 s.2.2.2.2.2.2.2.2.2.2.2.2) (fun s => μ s.1 s.2.1 s.2.2.1 s.2.2.2.1 s.2.2.2.2.1 s.2.2.2.2.2.1 s.2.2.2.2.2.2.1 s.2.2.2.2.2.2.2.1 s.2.2.2.2.2.2.2.2.1 s.2.2.2.2.2.2.2.2.2.1 s.2.2.2.2.2.2.2.2.2.2.1 s.2.2.2.2.2.2.2.2.2.2.2.1 s.2.2.2.2.2.2.2.2.2.2.2.2) (fun n s hI hk => hs n s.1 s.2.1 s.2.2.1 s.2.2.2.1 s.2.2.2.2.1 s.2.2.2.2.2.1 s.2.2.2.2.2.2.1 s.2.2.2.2.2.2.2.1 s.2.2.2.2.2.2.2.2.1 s.2.2.2.2.2.2.2.2.2.1 s.2.2.2.2.2.2.2.2.2.2.1 s.2.2.2.2.2.2.2.2.2.2.2.1 s.2.2.2.2.2.2.2.2.2.2.2.2 hI (fun b1 b2 b3 b4 b5 b6 b7 b8 b9 b10 b11 b12 b13 h9 hm => hk (b1, b2, b3, b4, b5, b6, b7, b8, b9, b10, b11, b12, b13) h9 hm)) (a1, a2, a3, a4, a5, a6, a7, a8, a9, a10, a11, a12, a13) h
theorem lp14 {A1 A2 A3 A4 A5 A6 A7 A8 A9 A10 A11 A12 A13 A14 : Type} (W : Nat → A1 → A2 → A3 → A4 → A5 → A6 → A7 → A8 → A9 → A10 → A11 → A12 → A13 → A14 → Prop) (I : A1 → A2 → A3 → A4 → A5 → A6 → A7 → A8 → A9 → A10 → A11 → A12 → A13 → A14 → Prop) (μ : A1 → A2 → A3 → A4 → A5 → A6 → A7 → A8 → A9 → A10 → A11 → A12 → A13 → A14 → Nat) (hs : ∀ (n : Nat) (a1 : A1) (a2 : A2) (a3 : A3) (a4 : A4) (a5 : A5) (a6 : A6) (a7 : A7) (a8 : A8) (a9 : A9) (a10 : A10) (a11 : A11) (a12 : A12) (a13 : A13) (a14 : A14), I a1 a2 a3 a4 a5 a6 a7 a8 a9 a10 a11 a12 a13 a14 → (∀ (b1 : A1) (b2 : A2) (b3 : A3) (b4 : A4) (b5 : A5) (b6 : A6) (b7 : A7) (b8 : A8) (b9 : A9) (b10 : A10) (b11 : A11) (b12 : A12) (b13 : A13) (b14 : A14), I b1 b2 b3 b4 b5 b6 b7 b8 b9 b10 b11 b12 b13 b14 → μ b1 b2 b3 b4 b5 b6 b7 b8 b9 b10 b11 b12 b13 b14 < μ a1 a2 a3 a4 a5 a6 a7 a8 a9 a10 a11 a12 a13 a14 → W n b1 b2 b3 b4 b5 b6 b7 b8 b9 b10 b11 b12 b13 b14) → W (n + 1) a1 a2 a3 a4 a5 a6 a7 a8 a9 a10 a11 a12 a13 a14) (a1 : A1) (a2 : A2) (a3 : A3) (a4 : A4) (a5 : A5) (a6 : A6) (a7 : A7) (a8 : A8) (a9 : A9) (a10 : A10) (a11 : A11) (a12 : A12) (a13 : A13) (a14 : A14) (h : I a1 a2 a3 a4 a5 a6 a7 a8 a9 a10 a11 a12 a13 a14) : ∃ n, W n a1 a2 a3 a4 a5 a6 a7 a8 a9 a10 a11 a12 a13 a14 :=
  loop_m (σ := A1 × A2 × A3 × A4 × A5 × A6 × A7 × A8 × A9 × A10 × A11 × A12 × A13 × A14) (fun n s => W n s.1 s.2.1 s.2.2.1 s.2.2.2.1 s.2.2.2.2.1 s.2.2.2.2.2.1 s.2.2.2.2.2.2.1 s.2.2.2.2.2.2.2.1 s.2.2.2.2.2.2.2.2.1 s.2.2.2.2.2.2.2.2.2.1 s.2.2.2.2.2.2.2.2.2.2.1 s.2.2.2.2.2.2.2.2.2.2.2.1 s.2.2.2.2.2.2.2.2.2.2.2.2.1 s.2.2.2.2.2.2.2.2.2.2.2.2.2) (fun s => I s.1 s.2.1 s.2.2.1 s.2.2.2.1 s.2.2.2.2.1 s.2.2.2.2.2.1 s.2.2.2.2.2.2.1 s.2.2.2.2.2.2.2.1 s.2.2.2.2.2.2.2.2.1 s.2.2.2.2.2.2.2.2.2.1 s.2.2.2.2.2.2.2.2.2.2.1 s.2.2.2.2.2.2.2.2.2.2.2.1 s.2.2.2.2.2.2.2.2.2.2.2.2.1 s.2.2.2.2.2.2.2.2.2.2.2.2.2) (fun s => μ s.1 s.2.1 s.2.2.1 s.2.2.2.1 s.2.2.2.2.1 s.2.2.2.2.2.1 s.2.2.2.2.2.2.1 s.2.2.2.2.2.2.2.1 s.2.2.2.2.2.2.2.2.1 s.2.2.2.2.2.2.2.2.2.1 s.2.2.2.2.2.2.2.2.2.2.1 s.2.2.2.2.2.2.2.2.2.2.2.1 s.2.2.2.2.2.2.2.2.2.2.2.2.1 s.2.2.2.2.2.2.2.2.2.2.2.2.2) (fun n s hI hk => hs n s.1 s.2.1 s.2.2.1 s.2.2.2.1 s.2.2.2.2.1 s.2.2.2.2.2.1 s.2.2.2.2.2.2.1 s.2.2.2.2.2.2.2.1 s.2.2.2.2.2.2.2.2.1 s.2.2.2.2.2.2.2.2.2.1 s.2.2.2.2.2.2.2.2.2.2.1 s.2.2.2.2.2.2.2.2.2.2.2.1 s.2.2.2.2.2.2.2.2.2.2.2.2.1 s.2.2.2.2.2.2.2.2.2.2.2.2.2 hI (fun b1 b2 b3 b4 b5 b6 b7 b8 b9 b10 b11 b12 b13 b14 h9 hm => hk (b1, b2, b3, b4, b5, b6, b7, b8, b9, b10, b11, b12, b13, b14) h9 hm)) (a1, a2, a3, a4, a5, a6, a7, a8, a9, a10, a11, a12, a13, a14) h
theorem lp15 {A1 A2 A3 A4 A5 A6 A7 A8 A9 A10 A11 A12 A13 A14 A15 : Type} (W : Nat → A1 → A2 → A3 → A4 → A5 → A6 → A7 → A8 → A9 → A10 → A11 → A12 → A13 → A14 → A15 → Prop) (I : A1 → A2 → A3 → A4 → A5 → A6 → A7 → A8 → A9 → A10 → A11 → A12 → A13 → A14 → A15 → Prop) (μ : A1 → A2 → A3 → A4 → A5 → A6 → A7 → A8 → A9 → A10 → A11 → A12 → A13 → A14 → A15 → Nat) (hs : ∀ (n : Nat) (a1 : A1) (a2 : A2) (a3 : A3) (a4 : A4) (a5 : A5) (a6 : A6) (a7 : A7) (a8 : A8) (a9 : A9) (a10 : A10) (a11 : A11) (a12 : A12) (a13 : A13) (a14 : A14) (a15 : A15), I a1 a2 a3 a4 a5 a6 a7 a8 a9 a10 a11 a12 a13 a14 a15 → (∀ (b1 : A1) (b2 : A2) (b3 : A3) (b4 : A4) (b5 : A5) (b6 : A6) (b7 : A7) (b8 : A8) (b9 : A9) (b10 : A10) (b11 : A11) (b12 : A12) (b13 : A13) (b14 : A14) (b15 : A15), I b1 b2 b3 b4 b5 b6 b7 b8 b9 b10 b11 b12 b13 b14 b15 → μ b1 b2 b3 b4 b5 b6 b7 b8 b9 b10 b11 b12 b13 b14 b15 < μ a1 a2 a3 a4 a5 a6 a7 a8 a9 a10 a11 a12 a13 a14 a15 → W n b1 b2 b3 b4 b5 b6 b7 b8 b9 b10 b11 b12 b13 b14 b15) → W (n + 1) a1 a2 a3 a4 a5 a6 a7 a8 a9 a10 a11 a12 a13 a14 a15) (a1 : A1) (a2 : A2) (a3 : A3) (a4 : A4) (a5 : A5) (a6 : A6) (a7 : A7) (a8 : A8) (a9 : A9) (a10 : A10) (a11 : A11) (a12 : A12) (a13 : A13) (a14 : A14) (a15 : A15) (h : I a1 a2 a3 a4 a5 a6 a7 a8 a9 a10 a11 a12 a13 a14 a15) : ∃ n, W n a1 a2 a3 a4 a5 a6 a7 a8 a9 a10 a11 a12 a13 a14 a15 :=
  loop_m (σ := A1 × A2 × A3 × A4 × A5 × A6 × A7 × A8 × A9 × A10 × A11 × A12 × A13 × A14 × A15) (fun n s => W n s.1 s.2.1 s.2.2.1 s.2.2.2.1 s.2.2.2.2.1 s.2.2.2.2.2.1 s.2.2.2.2.2.2.1 s.2.2.2.2.2.2.2.1 s.2.2.2.2.2.2.2.2.1 s.2.2.2.2.2.2.2.2.2.1 s.2.2.2.2.2.2.2.2.2.2.1 s.2.2.2.2.2.2.2.2.2.2.2.1 s.2.2.2.2.2.2.2.2.2.2.2.2.1 s.2.2.2.2.2.2.2.2.2.2.2.2.2.1 s.2.2.2.2.2.2.2.2.2.2.2.2.2.2) (fun s => I s.1 s.2.1 s.2.2.1 s.2.2.2.1 s.2.2.2.2.1 s.2.2.2.2.2.1 s.2.2.2.2.2.2.1 s.2.2.2.2.2.2.2.1 s.2.2.2.2.2.2.2.2.1 s.2.2.2.2.2.2.2.2.2.1 s.2.2.2.2.2.2.2.2.2.2.1 s.2.2.2.2.2.2.2.2.2.2.2.1 s.2.2.2.2.2.2.2.2.2.2.2.2.1 s.2.2.2.2.2.2.2.2.2.2.2.2.2.1 s.2.2.2.2.2.2.2.2.2.2.2.2.2.2) (fun s => μ s.1 s.2.1 s.2.2.1 s.2.2.2.1 s.2.2.2.2.1 s.2.2.2.2.2.1 s.2.2.2.2.2.2.1 s.2.2.2.2.2.2.2.1 s.2.2.2.2.2.2.2.2.1 s.2.2.2.2.2.2.2.2.2.1 s.2.2.2.2.2.2.2.2.2.2.1 s.2.2.2.2.2.2.2.2.2.2.2.1 s.2.2.2.2.2.2.2.2.2.2.2.2.1 s.2.2.2.2.2.2.2.2.2.2.2.2.2.1 s.2.2.2.2.2.2.2.2.2.2.2.2.2.2) (fun n s hI hk => hs n s.1 s.2.1 s.2.2.1 s.2.2.2.1 s.2.2.2.2.1 s.2.2.2.2.2.1 s.2.2.2.2.2.2.1 s.2.2.2.2.2.2.2.1 s.2.2.2.2.2.2.2.2.1 s.2.2.2.2.2.2.2.2.2.1 s.2.2.2.2.2.2.2.2.2.2.1 s.2.2.2.2.2.2.2.2.2.2.2.1 s.2.2.2.2.2.2.2.2.2.2.2.2.1 s.2.2.2.2.2.2.2.2.2.2.2.2.2.1 s.2.2.2.2.2.2.2.2.2.2.2.2.2.2 hI (fun b1 b2 b3 b4 b5 b6 b7 b8 b9 b10 b11 b12 b13 b14 b15 h9 hm => hk (b1, b2, b3, b4, b5, b6, b7, b8, b9, b10, b11, b12, b13, b14, b15) h9 hm)) (a1, a2, a3, a4, a5, a6, a7, a8, a9, a10, a11, a12, a13, a14, a15) h
theorem lp16 {A1 A2 A3 A4 A5 A6 A7 A8 A9 A10 A11 A12 A13 A14 A15 A16 : Type} (W : Nat → A1 → A2 → A3 → A4 → A5 → A6 → A7 → A8 → A9 → A10 → A11 → A12 → A13 → A14 → A15 → A16 → Prop) (I : A1 → A2 → A3 → A4 → A5 → A6 → A7 → A8 → A9 → A10 → A11 → A12 → A13 → A14 → A15 → A16 → Prop) (μ : A1 → A2 → A3 → A4 → A5 → A6 → A7 → A8 → A9 → A10 → A11 → A12 → A13 → A14 → A15 → A16 → Nat) (hs : ∀ (n : Nat) (a1 : A1) (a2 : A2) (a3 : A3) (a4 : A4) (a5 : A5) (a6 : A6) (a7 : A7) (a8 : A8) (a9 : A9) (a10 : A10) (a11 : A11) (a12 : A12) (a13 : A13) (a14 : A14) (a15 : A15) (a16 : A16), I a1 a2 a3 a4 a5 a6 a7 a8 a9 a10 a11 a12 a13 a14 a15 a16 → (∀ (b1 : A1) (b2 : A2) (b3 : A3) (b4 : A4) (b5 : A5) (b6 : A6) (b7 : A7) (b8 : A8) (b9 : A9) (b10 : A10) (b11 : A11) (b12 : A12) (b13 : A13) (b14 : A14) (b15 : A15) (b16 : A16), I b1 b2 b3 b4 b5 b6 b7 b8 b9 b10 b11 b12 b13 b14 b15 b16 → μ b1 b2 b3 b4 b5 b6 b7 b8 b9 b10 b11 b12 b13 b14 b15 b16 < μ a1 a2 a3 a4 a5 a6 a7 a8 a9 a10 a11 a12 a13 a14 a15 a16 → W n b1 b2 b3 b4 b5 b6 b7 b8 b9 b10 b11 b12 b13 b14 b15 b16) → W (n + 1) a1 a2 a3 a4 a5 a6 a7 a8 a9 a10 a11 a12 a13 a14 a15 a16) (a1 : A1) (a2 : A2) (a3 : A3) (a4 : A4) (a5 : A5) (a6 : A6) (a7 : A7) (a8 : A8) (a9 : A9) (a10 : A10) (a11 : A11) (a12 : A12) (a13 : A13) (a14 : A14) (a15 : A15) (a16 : A16) (h : I a1 a2 a3 a4 a5 a6 a7 a8 a9 a10 a11 a12 a13 a14 a15 a16) : ∃ n, W n a1 a2 a3 a4 a5 a6 a7 a8 a9 a10 a11 a12 a13 a14 a15 a16 :=
  loop_m (σ := A1 × A2 × A3 × A4 × A5 × A6 × A7 × A8 × A9 × A10 × A11 × A12 × A13 × A14 × A15 × A16) (fun n s => W n s.1 s.2.1 s.2.2.1 s.2.2.2.1 s.2.2.2.2.1 s.2.2.2.2.2.1 s.2.2.2.2.2.2.1 s.2.2.2.2.2.2.2.1 s.2.2.2.2.2.2.2.2.1 s.2.2.2.2.2.2.2.2.2.1 s.2.2.2.2.2.2.2.2.2.2.1 s.2.2.2.2.2.2.2.2.2.2.2.1 s.2.2.2.2.2.2.2.2.2.2.2.2.1 s.2.2.2.2.2.2.2.2.2.2.2.2.2.1 s.2.2.2.2.2.2.2.2.2.2.2.2.2.2.1 s.2.2.2.2.2.2.2.2.2.2.2.2.2.2.2) (fun s => I s.1 s.2.1 s.2.2.1 s.2.2.2.1 s.2.2.2.2.1 s.2.2.2.2.2.1 s.2.2.2.2.2.2.1 s.2.2.2.2.2.2.2.1 s.2.2.2.2.2.2.2.2.1 s.2.2.2.2.2.2.2.2.2.1 s.2.2.2.2.2.2.2.2.2.2.1 s.2.2.2.2.2.2.2.2.2.2.2.1 s.2.2.2.2.2.2.2.2.2.2.2.2.1 s.2.2.2.2.2.2.2.2.2.2.2.2.2.1 s.2.2.2.2.2.2.2.2.2.2.2.2.2.2.1 s.2.2.2.2.2.2.2.2.2.2.2.2.2.2.2) (fun s => μ s.1 s.2.1 s.2.2.1 s.2.2.2.1 s.2.2.2.2.1 s.2.2.2.2.2.1 s.2.2.2.2.2.2.1 s.2.2.2.2.2.2.2.1 s.2.2.2.2.2.2.2.2.1 s.2.2.2.2.2.2.2.2.2.1 s.2.2.2.2.2.2.2.2.2.2.1 s.2.2.2.2.2.2.2.2.2.2.2.1 s.2.2.2.2.2.2.2.2.2.2.2.2.1 s.2.2.2.2.2.2.2.2.2.2.2.2.2.1 s.2.2.2.2.2.2.2.2.2.2.2.2.2.2.1 s.2.2.2.2.2.2.2.2.2.2.2.2.2.2.2) (fun n s hI hk => hs n s.1 s.2.1 s.2.2.1 s.2.2.2.1 s.2.2.2.2.1 s.2.2.2.2.2.1 s.2.2.2.2.2.2.1 s.2.2.2.2.2.2.2.1 s.2.2.2.2.2.2.2.2.1 s.2.2.2.2.2.2.2.2.2.1 s.2.2.2.2.2.2.2.2.2.2.1 s.2.2.2.2.2.2.2.2.2.2.2.1 s.2.2.2.2.2.2.2.2.2.2.2.2.1 s.2.2.2.2.2.2.2.2.2.2.2.2.2.1 s.2.2.2.2.2.2.2.2.2.2.2.2.2.2.1 s.2.2.2.2.2.2.2.2.2.2.2.2.2.2.2 hI (fun b1 b2 b3 b4 b5 b6 b7 b8 b9 b10 b11 b12 b13 b14 b15 b16 h9 hm => hk (b1, b2, b3, b4, b5, b6, b7, b8, b9, b10, b11, b12, b13, b14, b15, b16) h9 hm)) (a1, a2, a3, a4, a5, a6, a7, a8, a9, a10, a11, a12, a13, a14, a15, a16) h
theorem pk_least (P : Nat → Prop) (h : ∃ k, P k) : ∃ k, P k ∧ ∀ j, j < k → ¬ P j := by
  obtain ⟨k, hk⟩ := h
  induction k using Nat.strongRecOn with
  | ind k ih =>
    by_cases e : ∃ j, j < k ∧ P j
    · obtain ⟨j, hj, pj⟩ := e
      exact ih j hj pj
    · exact ⟨k, hk, fun j hj pj => e ⟨j, hj, pj⟩⟩
theorem rp1 {ρ A1 : Type} (W : Nat → (ρ → Prop) → A1 → Prop) (ok : A1 → Prop) (μ : A1 → Nat) (val : A1 → ρ)
    (hs : ∀ (d : Nat) (post : ρ → Prop) (a1 : A1), ok a1 → post (val a1) → (∀ (post' : ρ → Prop) (b1 : A1), ok b1 → μ b1 < μ a1 → post' (val b1) → W d post' b1) → W (d + 1) post a1) :
    ∀ (d : Nat) (post : ρ → Prop) (a1 : A1), ok a1 → μ a1 < d → post (val a1) → W d post a1 := by
  intro d
  induction d with
  | zero => intro post a1 _ h; omega
  | succ d ih =>
    intro post a1 ho hm hp
    exact hs d post a1 ho hp (fun post' b1 ho' hm' hp' => ih post' b1 ho' (by omega) hp')
theorem rp2 {ρ A1 A2 : Type} (W : Nat → (ρ → Prop) → A1 → A2 → Prop) (ok : A1 → A2 → Prop) (μ : A1 → A2 → Nat) (val : A1 → A2 → ρ)
    (hs : ∀ (d : Nat) (post : ρ → Prop) (a1 : A1) (a2 : A2), ok a1 a2 → post (val a1 a2) → (∀ (post' : ρ → Prop) (b1 : A1) (b2 : A2), ok b1 b2 → μ b1 b2 < μ a1 a2 → post' (val b1 b2) → W d post' b1 b2) → W (d + 1) post a1 a2) :
    ∀ (d : Nat) (post : ρ → Prop) (a1 : A1) (a2 : A2), ok a1 a2 → μ a1 a2 < d → post (val a1 a2) → W d post a1 a2 := by
  intro d
  induction d with
  | zero => intro post a1 a2 _ h; omega
  | succ d ih =>
    intro post a1 a2 ho hm hp
    exact hs d post a1 a2 ho hp (fun post' b1 b2 ho' hm' hp' => ih post' b1 b2 ho' (by omega) hp')
theorem rp3 {ρ A1 A2 A3 : Type} (W : Nat → (ρ → Prop) → A1 → A2 → A3 → Prop) (ok : A1 → A2 → A3 → Prop) (μ : A1 → A2 → A3 → Nat) (val : A1 → A2 → A3 → ρ)
    (hs : ∀ (d : Nat) (post : ρ → Prop) (a1 : A1) (a2 : A2) (a3 : A3), ok a1 a2 a3 → post (val a1 a2 a3) → (∀ (post' : ρ → Prop) (b1 : A1) (b2 : A2) (b3 : A3), ok b1 b2 b3 → μ b1 b2 b3 < μ a1 a2 a3 → post' (val b1 b2 b3) → W d post' b1 b2 b3) → W (d + 1) post a1 a2 a3) :
    ∀ (d : Nat) (post : ρ → Prop) (a1 : A1) (a2 : A2) (a3 : A3), ok a1 a2 a3 → μ a1 a2 a3 < d → post (val a1 a2 a3) → W d post a1 a2 a3 := by
  intro d
  induction d with
  | zero => intro post a1 a2 a3 _ h; omega
  | succ d ih =>
    intro post a1 a2 a3 ho hm hp
    exact hs d post a1 a2 a3 ho hp (fun post' b1 b2 b3 ho' hm' hp' => ih post' b1 b2 b3 ho' (by omega) hp')
theorem rp4 {ρ A1 A2 A3 A4 : Type} (W : Nat → (ρ → Prop) → A1 → A2 → A3 → A4 → Prop) (ok : A1 → A2 → A3 → A4 → Prop) (μ : A1 → A2 → A3 → A4 → Nat) (val : A1 → A2 → A3 → A4 → ρ)
    (hs : ∀ (d : Nat) (post : ρ → Prop) (a1 : A1) (a2 : A2) (a3 : A3) (a4 : A4), ok a1 a2 a3 a4 → post (val a1 a2 a3 a4) → (∀ (post' : ρ → Prop) (b1 : A1) (b2 : A2) (b3 : A3) (b4 : A4), ok b1 b2 b3 b4 → μ b1 b2 b3 b4 < μ a1 a2 a3 a4 → post' (val b1 b2 b3 b4) → W d post' b1 b2 b3 b4) → W (d + 1) post a1 a2 a3 a4) :
    ∀ (d : Nat) (post : ρ → Prop) (a1 : A1) (a2 : A2) (a3 : A3) (a4 : A4), ok a1 a2 a3 a4 → μ a1 a2 a3 a4 < d → post (val a1 a2 a3 a4) → W d post a1 a2 a3 a4 := by
  intro d
  induction d with
  | zero => intro post a1 a2 a3 a4 _ h; omega
  | succ d ih =>
    intro post a1 a2 a3 a4 ho hm hp
    exact hs d post a1 a2 a3 a4 ho hp (fun post' b1 b2 b3 b4 ho' hm' hp' => ih post' b1 b2 b3 b4 ho' (by omega) hp')
theorem rp5 {ρ A1 A2 A3 A4 A5 : Type} (W : Nat → (ρ → Prop) → A1 → A2 → A3 → A4 → A5 → Prop) (ok : A1 → A2 → A3 → A4 → A5 → Prop) (μ : A1 → A2 → A3 → A4 → A5 → Nat) (val : A1 → A2 → A3 → A4 → A5 → ρ)
    (hs : ∀ (d : Nat) (post : ρ → Prop) (a1 : A1) (a2 : A2) (a3 : A3) (a4 : A4) (a5 : A5), ok a1 a2 a3 a4 a5 → post (val a1 a2 a3 a4 a5) → (∀ (post' : ρ → Prop) (b1 : A1) (b2 : A2) (b3 : A3) (b4 : A4) (b5 : A5), ok b1 b2 b3 b4 b5 → μ b1 b2 b3 b4 b5 < μ a1 a2 a3 a4 a5 → post' (val b1 b2 b3 b4 b5) → W d post' b1 b2 b3 b4 b5) → W (d + 1) post a1 a2 a3 a4 a5) :
    ∀ (d : Nat) (post : ρ → Prop) (a1 : A1) (a2 : A2) (a3 : A3) (a4 : A4) (a5 : A5), ok a1 a2 a3 a4 a5 → μ a1 a2 a3 a4 a5 < d → post (val a1 a2 a3 a4 a5) → W d post a1 a2 a3 a4 a5 := by
  intro d
  induction d with
  | zero => intro post a1 a2 a3 a4 a5 _ h; omega
  | succ d ih =>
    intro post a1 a2 a3 a4 a5 ho hm hp
    exact hs d post a1 a2 a3 a4 a5 ho hp (fun post' b1 b2 b3 b4 b5 ho' hm' hp' => ih post' b1 b2 b3 b4 b5 ho' (by omega) hp')
theorem rp6 {ρ A1 A2 A3 A4 A5 A6 : Type} (W : Nat → (ρ → Prop) → A1 → A2 → A3 → A4 → A5 → A6 → Prop) (ok : A1 → A2 → A3 → A4 → A5 → A6 → Prop) (μ : A1 → A2 → A3 → A4 → A5 → A6 → Nat) (val : A1 → A2 → A3 → A4 → A5 → A6 → ρ)
    (hs : ∀ (d : Nat) (post : ρ → Prop) (a1 : A1) (a2 : A2) (a3 : A3) (a4 : A4) (a5 : A5) (a6 : A6), ok a1 a2 a3 a4 a5 a6 → post (val a1 a2 a3 a4 a5 a6) → (∀ (post' : ρ → Prop) (b1 : A1) (b2 : A2) (b3 : A3) (b4 : A4) (b5 : A5) (b6 : A6), ok b1 b2 b3 b4 b5 b6 → μ b1 b2 b3 b4 b5 b6 < μ a1 a2 a3 a4 a5 a6 → post' (val b1 b2 b3 b4 b5 b6) → W d post' b1 b2 b3 b4 b5 b6) → W (d + 1) post a1 a2 a3 a4 a5 a6) :
    ∀ (d : Nat) (post : ρ → Prop) (a1 : A1) (a2 : A2) (a3 : A3) (a4 : A4) (a5 : A5) (a6 : A6), ok a1 a2 a3 a4 a5 a6 → μ a1 a2 a3 a4 a5 a6 < d → post (val a1 a2 a3 a4 a5 a6) → W d post a1 a2 a3 a4 a5 a6 := by
  intro d
  induction d with
  | zero => intro post a1 a2 a3 a4 a5 a6 _ h; omega
  | succ d ih =>
    intro post a1 a2 a3 a4 a5 a6 ho hm hp
    exact hs d post a1 a2 a3 a4 a5 a6 ho hp (fun post' b1 b2 b3 b4 b5 b6 ho' hm' hp' => ih post' b1 b2 b3 b4 b5 b6 ho' (by omega) hp')
theorem rec_p {σ ρ : Type} (W : Nat → (ρ → Prop) → σ → Prop) (ok : σ → Prop) (μ : σ → Nat) (val : σ → ρ)
    (hs : ∀ d s post, ok s → post (val s) → (∀ s' post', ok s' → μ s' < μ s → post' (val s') → W d post' s') → W (d + 1) post s) :
    ∀ d s post, ok s → μ s < d → post (val s) → W d post s := by
  intro d
  induction d with
  | zero => intro s post _ h; omega
  | succ d ih =>
    intro s post ho hm hp
    exact hs d s post ho hp (fun s' post' ho' hm' hp' => ih s' post' ho' (by omega) hp')
theorem rec_q {σ ρ : Type} (W : Nat → (ρ → Prop) → σ → Prop) (ok : σ → Prop) (μ : σ → Nat) (Q : σ → ρ → Prop)
    (hs : ∀ d s post, ok s → (∀ r, Q s r → post r) → (∀ s' post', ok s' → μ s' < μ s → (∀ r, Q s' r → post' r) → W d post' s') → W (d + 1) post s) :
    ∀ d s post, ok s → μ s < d → (∀ r, Q s r → post r) → W d post s := by
  intro d
  induction d with
  | zero => intro s post _ h; omega
  | succ d ih =>
    intro s post ho hm hp
    exact hs d s post ho hp (fun s' post' ho' hm' hp' => ih s' post' ho' (by omega) hp')
def bx_sum (f : Nat → Int32) : Nat → Int32
  | 0 => 0
  | n + 1 => bx_sum f n + f n
theorem ek_u {A : Prop} {B : Nat → Prop} {k N : Nat} (hk : k < N) (h : B k) : (some k = none → A) ∧ (∀ y : Nat, some k = some y → (y < N ∧ B y)) :=
  ⟨fun z => absurd z (Option.some_ne_none k), fun _ e => (by cases e; exact ⟨hk, h⟩)⟩
theorem ek_nu {A : Prop} {B : Nat → Prop} (h : A) : ((none : Option Nat) = none → A) ∧ (∀ y : Nat, (none : Option Nat) = some y → B y) :=
  ⟨fun _ => h, fun _ e => (by cases e)⟩
theorem ek_if {c d A B : Prop} (e : c ↔ d) (f : d → A) (g : ¬ d → B) : (c → A) ∧ (¬ c → B) :=
  ⟨fun z => f (e.mp z), fun z => g (fun y => z (e.mpr y))⟩
theorem ek_v {α : Sort _} {P : α → Prop} {a b : α} (e : a = b) (h : P b) : P a := e ▸ h
theorem co_some {x : Option Nat} {A : Prop} {B : Nat → Prop} (i : Nat) (h : B i) (hx : x = some i := by rfl) : (x = none → A) ∧ (∀ y : Nat, x = some y → B y) := by
  subst hx
  exact ⟨fun e => (nomatch e), fun y e => Option.some.inj e ▸ h⟩
theorem co_none {x : Option Nat} {A : Prop} {B : Nat → Prop} (h : A) (hx : x = none := by rfl) : (x = none → A) ∧ (∀ y : Nat, x = some y → B y) := by
  subst hx
  exact ⟨fun _ => h, fun y e => (nomatch e)⟩
theorem co_any {x : Option Nat} {A : Prop} {B : Nat → Prop} (hn : x = none → A) (hs : ∀ i : Nat, x = some i → B i) : (x = none → A) ∧ (∀ y : Nat, x = some y → B y) := ⟨hn, hs⟩
theorem co_2 {P : Nat → Prop} (h0 : P 0) (h1 : P 1) {i : Nat} (hi : i < 2) : P i :=
  match i, hi with
  | 0, _ => h0
  | 1, _ => h1
theorem co_3 {P : Nat → Prop} (h0 : P 0) (h1 : P 1) (h2 : P 2) {i : Nat} (hi : i < 3) : P i :=
  match i, hi with
  | 0, _ => h0
  | 1, _ => h1
  | 2, _ => h2
theorem co_4 {P : Nat → Prop} (h0 : P 0) (h1 : P 1) (h2 : P 2) (h3 : P 3) {i : Nat} (hi : i < 4) : P i :=
  match i, hi with
  | 0, _ => h0
  | 1, _ => h1
  | 2, _ => h2
  | 3, _ => h3
theorem co_dec {N : Nat} {P : Nat → Prop} [DecidablePred P] (h : (List.range N).all (fun i => decide (P i)) = true) {i : Nat} (hi : i < N) : P i := by
  have := List.all_eq_true.mp h i (List.mem_range.mpr hi)
  exact of_decide_eq_true this
theorem co_tab {α : Type} {l : List α} {d : α} {P : α → Prop} (h : ∀ a, a ∈ l → P a) {i : Nat} (hi : i < l.length) : P (l.getD i d) := by
  rw [List.getD_eq_getElem?_getD, List.getElem?_eq_getElem hi]
  exact h _ (List.getElem_mem hi)
theorem pk_mu {x : Int32} {L : Nat} (h0 : ¬ x < 0) (h : ¬ nI L ≤ x) (hL : L < 2 ^ 31) : ∃ j : Nat, j < L ∧ x = nI j ∧ x + 1 = nI (j + 1) ∧ x.toNatClampNeg = j ∧ L - (x + 1).toNatClampNeg < L - x.toNatClampNeg := by
  obtain ⟨j, hj, rfl⟩ := nI_of h0
  have hl : j < L := Nat.not_le.mp fun q => h (nI_le q hj)
  refine ⟨j, hl, rfl, nI_1 j, nI_clamp hj, ?_⟩
  rw [nI_1, nI_clamp (by omega), nI_clamp hj]
  omega
theorem op_s {α : Type} {r : Option α} {A : Prop} {B : α → Prop} {y : α} (h : r = some y) (b : B y) : (r = none → A) ∧ ∀ z, r = some z → B z :=
  ⟨fun e => (by rw [h] at e; cases e), fun z e => (by rw [h] at e; cases e; exact b)⟩
def l_holds {α : Type} (a : Nat → Option Nat) (LP : List Nat) (p : Nat → α) (c : Nat) (b : Nat → α) : Prop :=
  ∀ j, j < c → ∃ y, a j = some y ∧ y ∈ LP ∧ p y = b j
theorem l_holds_0 {α : Type} {a : Nat → Option Nat} {LP : List Nat} {p b : Nat → α} : l_holds a LP p 0 b := fun j h => absurd h (Nat.not_lt_zero j)
theorem l_in_new (LP : List Nat) (q : Nat) : q ∈ LP ++ [q] := List.mem_append.mpr (Or.inr (List.mem_singleton.mpr rfl))
def l_sum (b : Nat → Int32) : Nat → Int32
  | 0 => 0
  | k + 1 => l_sum b k + b k
theorem sb_shr0 (x : Int32) : x >>> ((0 : Int32) &&& 31) = x := by
  rw [show ((0 : Int32) &&& 31) = 0 by decide]
  simp
theorem sb_shl0 (x : Int32) : x <<< ((0 : Int32) &&& 31) = x := by
  rw [show ((0 : Int32) &&& 31) = 0 by decide]
  simp
theorem sb_cl0 : (0 : Int32).toNatClampNeg = 0 := by decide
theorem sb_m1 {p : Nat} (h : 0 < p) : nI p + (-1) = nI (p - 1) := by
  obtain ⟨q, rfl⟩ : ∃ q, p = q + 1 := ⟨p - 1, by omega⟩
  exact pk_m1 q
def sb_b (c : Nat) : Int32 := (nI c).toInt8.toInt32
theorem sb_byte : ∀ c, c < 256 → sb_b c &&& 255 = nI c ∧ ((nI c).toUInt32 % 65536).toInt32 = nI c ∧ nI c ≤ 255 := by decide +kernel
def sb_Fit (a : Nat → Int32) : Prop := ∀ j, fits .byte (.int (a j)) = true
def sb_Lat (t : Nat → Nat) (n : Nat) (a : Nat → Int32) : Prop := ∀ j, j < n → t j < 256 ∧ a j = sb_b (t j)
theorem sb_fitB (c : Nat) : fits .byte (.int (sb_b c)) = true := pk_fb _
theorem sb_fit0 : sb_Fit (fun _ => 0) := fun _ => by
  show fits .byte (.int 0) = true
  decide
theorem sb_fitU {a : Nat → Int32} {k : Nat} {x : Int32} (h : sb_Fit a) (hx : fits .byte (.int x) = true) : sb_Fit (upd a k x) := by
  intro j
  by_cases e : j = k
  · subst e
    rw [pk_us]
    exact hx
  · rw [pk_un e]
    exact h j
def sb_cat (t : Nat → Nat) (n : Nat) (s : Nat → Nat) : Nat → Nat := fun j => if j < n then t j else s (j - n)
theorem sb_cat_lo {t s : Nat → Nat} {n j : Nat} (h : j < n) : sb_cat t n s j = t j := if_pos h
theorem sb_cat_hi {t s : Nat → Nat} {n j : Nat} : sb_cat t n s (n + j) = s j := by
  show (if n + j < n then t (n + j) else s (n + j - n)) = s j
  rw [if_neg (by omega), Nat.add_sub_cancel_left]
theorem sb_latPut {t s : Nat → Nat} {n w : Nat} {a a' : Nat → Int32} (h : sb_Lat t n a) (hk : ∀ j, j < n → a' j = a j) (hs : ∀ i, i < w → s i < 256 ∧ a' (n + i) = sb_b (s i)) : sb_Lat (sb_cat t n s) (n + w) a' := by
  intro j hj
  by_cases e : j < n
  · rw [sb_cat_lo e, hk j e]
    exact h j e
  · obtain ⟨i, rfl⟩ : ∃ i, j = n + i := ⟨j - n, by omega⟩
    rw [sb_cat_hi]
    exact hs i (by omega)
theorem sb_latKeep {t : Nat → Nat} {n : Nat} {a a' : Nat → Int32} (h : sb_Lat t n a) (hk : ∀ j, j < n → a' j = a j) : sb_Lat t n a' := fun j hj => by
  rw [hk j hj]
  exact h j hj
def sb_cap (q m : Nat) : Nat := if q ≤ m then m else if 2 * m + 2 < q then q else 2 * m + 2
def sb_Room (q m mc ms : Nat) : Prop := q ≤ m ∨ (1 ≤ mc ∧ sb_cap q m ≤ ms ∧ sb_cap q m ≤ 65536)
theorem sb_cap_ge (q m : Nat) : q ≤ sb_cap q m := by
  unfold sb_cap
  split
  · omega
  · split <;> omega
theorem sb_cap_gem (q m : Nat) : m ≤ sb_cap q m := by
  unfold sb_cap
  split
  · omega
  · split <;> omega
theorem sb_cap_le {q m mc ms : Nat} (hm : m ≤ 65536) (hr : sb_Room q m mc ms) : sb_cap q m ≤ 65536 := by
  rcases hr with h | h
  · rw [sb_cap, if_pos h]
    exact hm
  · exact h.2.2
theorem sb_at {P : Int32 → Prop} {x y : Int32} (e : x = y) (h : P y) : P x := e ▸ h
def sb_dg (w : Nat) : Nat := if w < 10 then 1 else if w < 100 then 2 else if w < 1000 then 3 else if w < 10000 then 4 else if w < 100000 then 5 else if w < 1000000 then 6 else if w < 10000000 then 7 else if w < 100000000 then 8 else if w < 1000000000 then 9 else 10
def sb_dec (v : Nat) : Nat → Nat := fun i => 48 + v / 10 ^ (sb_dg v - 1 - i) % 10
theorem sb_dg_in (w : Nat) : 1 ≤ sb_dg w ∧ sb_dg w ≤ 10 := by
  unfold sb_dg
  constructor <;> (repeat' split) <;> omega
theorem sb_dg100 {w : Nat} (h : 100 ≤ w) (hw : w < 2 ^ 31) : sb_dg w = sb_dg (w / 100) + 2 := by
  rw [sb_dg, sb_dg, if_neg (show ¬ w < 10 by omega), if_neg (show ¬ w < 100 by omega)]
  by_cases h3 : w < 1000
  · rw [if_pos h3, if_pos (show w / 100 < 10 by omega)]
  rw [if_neg h3, if_neg (show ¬ w / 100 < 10 by omega)]
  by_cases h4 : w < 10000
  · rw [if_pos h4, if_pos (show w / 100 < 100 by omega)]
  rw [if_neg h4, if_neg (show ¬ w / 100 < 100 by omega)]
  by_cases h5 : w < 100000
  · rw [if_pos h5, if_pos (show w / 100 < 1000 by omega)]
  rw [if_neg h5, if_neg (show ¬ w / 100 < 1000 by omega)]
  by_cases h6 : w < 1000000
  · rw [if_pos h6, if_pos (show w / 100 < 10000 by omega)]
  rw [if_neg h6, if_neg (show ¬ w / 100 < 10000 by omega)]
  by_cases h7 : w < 10000000
  · rw [if_pos h7, if_pos (show w / 100 < 100000 by omega)]
  rw [if_neg h7, if_neg (show ¬ w / 100 < 100000 by omega)]
  by_cases h8 : w < 100000000
  · rw [if_pos h8, if_pos (show w / 100 < 1000000 by omega)]
  rw [if_neg h8, if_neg (show ¬ w / 100 < 1000000 by omega)]
  by_cases h9 : w < 1000000000
  · rw [if_pos h9, if_pos (show w / 100 < 10000000 by omega)]
  rw [if_neg h9, if_neg (show ¬ w / 100 < 10000000 by omega)]
  rw [if_pos (show w / 100 < 100000000 by omega)]
theorem sb_negT {w : Nat} (h : w < 2 ^ 31) : (-nI w).toInt = -(w : Int) := by
  rw [Int32.toInt_neg, nI_toInt h]
  exact Int.bmod_eq_of_le (by omega) (by omega)
theorem sb_nle {a b : Nat} (ha : a < 2 ^ 31) (hb : b < 2 ^ 31) : -nI a ≤ -nI b ↔ b ≤ a := by
  rw [Int32.le_iff_toInt_le, sb_negT ha, sb_negT hb]
  omega
theorem sb_nlt {a b : Nat} (ha : a < 2 ^ 31) (hb : b < 2 ^ 31) : -nI a < -nI b ↔ b < a := by
  rw [Int32.lt_iff_toInt_lt, sb_negT ha, sb_negT hb]
  omega
theorem sb_cmp {A B : Prop} {x : Int32} (v c : Nat) (f : c ≤ v → A) (g : v < c → B) (hv : v < 2 ^ 31) (hx : x = -nI c := by rfl) (hc : c < 2 ^ 31 := by omega) : (-nI v ≤ x → A) ∧ (¬ -nI v ≤ x → B) := by
  subst hx
  rw [sb_nle hv hc]
  exact ⟨f, fun z => g (by omega)⟩
theorem sb_ndiv {w : Nat} (hw : w < 2 ^ 31) : (-nI w) / 100 = -nI (w / 100) := by
  apply Int32.toInt_inj.mp
  have h100 : (100 : Int32).toInt = 100 := by decide
  rw [Int32.toInt_div, sb_negT hw, h100, sb_negT (by omega), Int.neg_tdiv, Int.tdiv_eq_ediv_of_nonneg (by omega), Int.bmod_eq_of_le (by omega) (by omega)]
  omega
theorem sb_nrem {w : Nat} (hw : w < 2 ^ 31) : (-nI (w / 100)) * 100 - (-nI w) = nI (w % 100) := by
  have h := pk_rem (a := w) (d := 100) hw (by decide) (by decide)
  rw [pk_div hw (by decide) (by decide)] at h
  rw [← h]
  show (-nI (w / 100)) * nI 100 - (-nI w) = nI w - nI (w / 100) * nI 100
  rw [Int32.neg_mul, Int32.sub_neg, Int32.add_comm, ← Int32.sub_eq_add_neg]

/-! rows on bits, shifts and unsigned numbers, to paste: each family out of a closed proof of our own, whole with what it rests on; each by itself clean at Lean in its own claim (generation 39, form 5). Take a family whole -/
/-! ===== Int32 by its bits: bt x i ===== -/
def bt (x : Int32) (i : Nat) : Bool := x.toBitVec.getLsbD i
theorem b_ext {x y : Int32} (h : ∀ i, i < 32 → bt x i = bt y i) : x = y := Int32.toBitVec_inj.mp (BitVec.eq_of_getLsbD_eq (fun i hi => h i hi))
theorem b_or (x y : Int32) (i : Nat) : bt (x ||| y) i = (bt x i || bt y i) := by unfold bt; rw [Int32.toBitVec_or, BitVec.getLsbD_or]
theorem b_and (x y : Int32) (i : Nat) : bt (x &&& y) i = (bt x i && bt y i) := by unfold bt; rw [Int32.toBitVec_and, BitVec.getLsbD_and]
theorem b_xor (x y : Int32) (i : Nat) : bt (x ^^^ y) i = (bt x i ^^ bt y i) := by unfold bt; rw [Int32.toBitVec_xor, BitVec.getLsbD_xor]
theorem b_big {x : Int32} {i : Nat} (h : 32 ≤ i) : bt x i = false := BitVec.getLsbD_of_ge _ _ h
theorem b_255 (i : Nat) : bt 255 i = decide (i < 8) := by
  rcases Nat.lt_or_ge i 32 with h | h
  · exact (by decide +kernel : ∀ i, i < 32 → bt 255 i = decide (i < 8)) i h
  · rw [b_big h, decide_eq_false (by omega)]
theorem b_65535 (i : Nat) : bt 65535 i = decide (i < 16) := by
  rcases Nat.lt_or_ge i 32 with h | h
  · exact (by decide +kernel : ∀ i, i < 32 → bt 65535 i = decide (i < 16)) i h
  · rw [b_big h, decide_eq_false (by omega)]
theorem b_m1 : ∀ i, i < 32 → bt (-1) i = true := by decide +kernel
theorem b_0 (i : Nat) : bt 0 i = false := BitVec.getLsbD_zero
theorem s_l : ∀ n, n < 32 → ((nI n &&& 31).toBitVec.smod 32).toNat = n := by decide +kernel
theorem s_u : ∀ n, n < 32 → (((nI n).toUInt32 &&& Int32.toUInt32 31).toBitVec % 32).toNat = n := by decide +kernel
theorem b_shl (n : Nat) (hn : n < 32) (x : Int32) {i : Nat} (hi : i < 32) : bt (x <<< (nI n &&& 31)) i = (decide (n ≤ i) && bt x (i - n)) := by
  unfold bt
  rw [Int32.toBitVec_shiftLeft]
  show (x.toBitVec <<< ((nI n &&& 31).toBitVec.smod 32).toNat).getLsbD i = _
  rw [s_l n hn, BitVec.getLsbD_shiftLeft]
  rcases Nat.lt_or_ge i n with h | h
  · simp [h, Nat.not_le.mpr h]
  · simp [hi, h, Nat.not_lt.mpr h]
theorem b_ushr (n : Nat) (hn : n < 32) (x : Int32) (i : Nat) : bt ((x.toUInt32 >>> ((nI n).toUInt32 &&& Int32.toUInt32 31)).toInt32) i = bt x (n + i) := by
  show (x.toUInt32 >>> ((nI n).toUInt32 &&& Int32.toUInt32 31)).toBitVec.getLsbD i = x.toUInt32.toBitVec.getLsbD (n + i)
  rw [UInt32.toBitVec_shiftRight]
  show (x.toUInt32.toBitVec >>> (((nI n).toUInt32 &&& Int32.toUInt32 31).toBitVec % 32).toNat).getLsbD i = _
  rw [s_u n hn, BitVec.getLsbD_ushiftRight]
theorem b_sshr (n : Nat) (hn : n < 32) (x : Int32) {i : Nat} (hi : i < 32) : bt (x >>> (nI n &&& 31)) i = if n + i < 32 then bt x (n + i) else bt x 31 := by
  unfold bt
  rw [Int32.toBitVec_shiftRight]
  show (x.toBitVec.sshiftRight ((nI n &&& 31).toBitVec.smod 32).toNat).getLsbD i = _
  rw [s_l n hn, BitVec.getLsbD_sshiftRight, BitVec.msb_eq_getLsbD_last]
  simp [hi]
theorem b_shl8 (x : Int32) {i : Nat} (hi : i < 32) : bt (x <<< ((8 : Int32) &&& 31)) i = (decide (8 ≤ i) && bt x (i - 8)) := b_shl 8 (by omega) x hi
theorem b_shl16 (x : Int32) {i : Nat} (hi : i < 32) : bt (x <<< ((16 : Int32) &&& 31)) i = (decide (16 ≤ i) && bt x (i - 16)) := b_shl 16 (by omega) x hi
theorem b_shl24 (x : Int32) {i : Nat} (hi : i < 32) : bt (x <<< ((24 : Int32) &&& 31)) i = (decide (24 ≤ i) && bt x (i - 24)) := b_shl 24 (by omega) x hi
theorem b_sshr8 (x : Int32) {i : Nat} (hi : i < 32) : bt (x >>> ((8 : Int32) &&& 31)) i = if 8 + i < 32 then bt x (8 + i) else bt x 31 := b_sshr 8 (by omega) x hi
/-! ===== nI under and, xor, >>>, one bit, 65535 ===== -/
theorem nx_and (a b : Nat) : nI a &&& nI b = nI (a &&& b) := by
  apply Int32.toBitVec_inj.1
  show BitVec.ofNat 32 a &&& BitVec.ofNat 32 b = BitVec.ofNat 32 (a &&& b)
  apply BitVec.eq_of_getLsbD_eq
  intro i hi
  simp [hi]
theorem nx_xor (a b : Nat) : nI a ^^^ nI b = nI (a ^^^ b) := by
  apply Int32.toBitVec_inj.1
  show BitVec.ofNat 32 a ^^^ BitVec.ofNat 32 b = BitVec.ofNat 32 (a ^^^ b)
  apply BitVec.eq_of_getLsbD_eq
  intro i hi
  simp [hi]
theorem nx_cnt : ∀ j : Fin 32, (UInt32.ofNat j.val &&& Int32.toUInt32 31).toNat % 32 = j.val := by decide +kernel
theorem nx_ush {k j : Nat} (hk : k < 65536) (hj : j < 32) : ((nI k).toUInt32 >>> ((nI j).toUInt32 &&& Int32.toUInt32 31)).toInt32 = nI (k >>> j) := by
  have hs : k >>> j ≤ k := by
    rw [Nat.shiftRight_eq_div_pow]
    exact Nat.div_le_self _ _
  have e2 : UInt32.ofNat k >>> (UInt32.ofNat j &&& Int32.toUInt32 31) = UInt32.ofNat (k >>> j) := by
    apply UInt32.toNat_inj.1
    have h1 : (UInt32.ofNat k).toNat = k := Nat.mod_eq_of_lt (by omega)
    have h2 : (UInt32.ofNat (k >>> j)).toNat = k >>> j := Nat.mod_eq_of_lt (by omega)
    rw [UInt32.toNat_shiftRight, nx_cnt ⟨j, hj⟩, h1, h2]
  show (UInt32.ofNat k >>> (UInt32.ofNat j &&& Int32.toUInt32 31)).toInt32 = _
  rw [e2]
  rfl
theorem nx_bit {k j : Nat} (hk : k < 65536) (hj : j < 16) : (((nI k).toUInt32 >>> ((nI j).toUInt32 &&& Int32.toUInt32 31)).toInt32 &&& 1) = 0 ↔ k.testBit j = false := by
  rw [nx_ush hk (by omega)]
  show nI (k >>> j) &&& nI 1 = 0 ↔ _
  rw [nx_and, Nat.and_one_is_mod, ← nI_0, nI_eq (by omega) (by omega), Nat.testBit_eq_decide_div_mod_eq, Nat.shiftRight_eq_div_pow, decide_eq_false_iff_not]
  generalize k / 2 ^ j = z
  omega
theorem nx_mod (k : Nat) : nI k &&& 65535 = nI (k % 65536) := by
  show nI k &&& nI 65535 = _
  rw [nx_and, show (65535 : Nat) = 2 ^ 16 - 1 from rfl, Nat.and_two_pow_sub_one_eq_mod]
theorem nx_m16 {k : Nat} (h : k < 65536) : nI k &&& 65535 = nI k := by rw [nx_mod, Nat.mod_eq_of_lt h]
theorem nx_mask (x : Int32) : ∃ k, k < 65536 ∧ x &&& 65535 = nI k := by
  have e : x = nI x.toBitVec.toNat := by
    apply Int32.toBitVec_inj.1
    show x.toBitVec = BitVec.ofNat 32 x.toBitVec.toNat
    simp
  refine ⟨x.toBitVec.toNat % 65536, Nat.mod_lt _ (by omega), ?_⟩
  rw [← nx_mod, ← e]
/-! ===== Int32 as a set of bits: test, set ===== -/
def nf_M (m : Int32) : Nat := 4294967296 - m.toBitVec.toNat
theorem nf_sh : ∀ l, l < 32 → ((1 : Int32) <<< (nI l &&& 31)).toBitVec = BitVec.twoPow 32 l := by decide +kernel
theorem nf_sl : ∀ l, l < 32 → (((nI l).toUInt32 &&& Int32.toUInt32 31).toBitVec % 32).toNat = l := by decide +kernel
theorem nf_tp : ∀ l, l < 32 → BitVec.twoPow 32 l ≠ 0#32 := by decide +kernel
theorem nf_bit (m : Int32) (l : Nat) (hl : l < 32) : ((m.toUInt32 >>> ((nI l).toUInt32 &&& Int32.toUInt32 31)).toInt32 &&& 1) = 0 ↔ (m &&& ((1 : Int32) <<< (nI l &&& 31))) = 0 := by
  have e : ((m.toUInt32 >>> ((nI l).toUInt32 &&& Int32.toUInt32 31)).toInt32).toBitVec = m.toBitVec >>> l := by
    show m.toBitVec >>> (((nI l).toUInt32 &&& Int32.toUInt32 31).toBitVec % 32) = m.toBitVec >>> l
    rw [BitVec.ushiftRight_eq', nf_sl l hl]
  rw [← Int32.toBitVec_inj, ← Int32.toBitVec_inj, Int32.toBitVec_and, Int32.toBitVec_and, nf_sh l hl, e, BitVec.and_twoPow]
  show (m.toBitVec >>> l &&& 1#32) = 0#32 ↔ _ = 0#32
  rw [BitVec.and_one_eq_setWidth_ofBool_getLsbD, BitVec.getLsbD_ushiftRight, Nat.add_zero]
  cases hb : m.toBitVec.getLsbD l
  · exact ⟨fun _ => by simp, fun _ => by decide⟩
  · exact ⟨fun z => absurd z (by decide), fun z => absurd ((if_pos rfl).symm.trans z) (nf_tp l hl)⟩
theorem nf_gr (m k : Int32) (h : m &&& k = 0) (hk : k ≠ 0) : nf_M (m ||| k) < nf_M m := by
  have hm := m.toBitVec.isLt
  have hm' := (m ||| k).toBitVec.isLt
  have h1 : m.toBitVec.toNat ≤ (m ||| k).toBitVec.toNat := by
    rw [Int32.toBitVec_or, BitVec.toNat_or]
    exact Nat.left_le_or
  have h2 : m.toBitVec.toNat ≠ (m ||| k).toBitVec.toNat := by
    intro e
    have e2 : m = m ||| k := Int32.toBitVec_inj.mp (BitVec.eq_of_toNat_eq e)
    apply hk
    apply Int32.toBitVec_inj.mp
    show k.toBitVec = 0#32
    apply BitVec.eq_of_getLsbD_eq
    intro i hi
    have a : m.toBitVec.getLsbD i = (m.toBitVec.getLsbD i || k.toBitVec.getLsbD i) := by rw [← BitVec.getLsbD_or, ← Int32.toBitVec_or, ← e2]
    have b : (m.toBitVec.getLsbD i && k.toBitVec.getLsbD i) = false := by
      rw [← BitVec.getLsbD_and, ← Int32.toBitVec_and, h]
      exact BitVec.getLsbD_zero
    rw [BitVec.getLsbD_zero]
    revert a b
    cases m.toBitVec.getLsbD i <;> cases k.toBitVec.getLsbD i <;> simp
  unfold nf_M
  omega
/-! ===== a byte read unsigned ===== -/
theorem bp_b (x : Int32) : x.toInt8.toInt32 &&& 255 = x &&& 255 := by
  apply Int32.toBitVec_inj.mp
  rw [Int32.toBitVec_and, Int32.toBitVec_and, Int8.toBitVec_toInt32, Int32.toBitVec_toInt8]
  apply BitVec.eq_of_getLsbD_eq
  intro i hi
  rw [BitVec.getLsbD_and, BitVec.getLsbD_and]
  have hm : ∀ i < 32, 8 ≤ i → (255 : Int32).toBitVec.getLsbD i = false := by decide
  rcases Nat.lt_or_ge i 8 with z | z
  · rw [BitVec.getLsbD_signExtend, BitVec.getLsbD_signExtend, if_pos z, if_pos hi]
    simp only [z, hi, decide_true, Bool.true_and]
  · rw [hm i hi z]; simp
/-! ===== the char cast and 65535 ===== -/
theorem em_w (v : Int32) : ∃ w : Nat, w < 65536 ∧ (v.toUInt32 % 65536).toInt32 = nI w ∧ v &&& 65535 = nI w := by
  have hr := lw_u16_r v
  have h0 : (0 : Int32).toInt = 0 := by decide
  obtain ⟨w, h1, h2⟩ := nI_of (x := lw_u16 v) (by rw [Int32.lt_iff_toInt_lt]; omega)
  have h3 : (v.toUInt32 % 65536).toInt32 = nI w := h2
  rw [h2, nI_toInt h1] at hr
  exact ⟨w, by omega, h3, by rw [← lg_i2c_mask, ← lg_i2c_nf, h3]⟩
/-! ===== Int64 as a set of bits: test, set, clear ===== -/
theorem ts_nf {x : Bool} (h : ¬ x = false) : x = true := by cases x <;> first | rfl | exact absurd rfl h
theorem ts_nt {x : Bool} (h : ¬ x = true) : x = false := by cases x <;> first | rfl | exact absurd rfl h
theorem ts_bit {w : Int64} {s : UInt64} {j : Nat} (hj : j < 64) (hs : s.toNat = j) : ((w.toUInt64 >>> s).toInt64 &&& 1) = 0 ↔ w.toBitVec.getLsbD j = false := by
  have e : (w.toUInt64 >>> s).toInt64.toBitVec = w.toBitVec >>> j := by
    apply BitVec.eq_of_toNat_eq
    show (w.toUInt64 >>> s).toNat = _
    rw [UInt64.toNat_shiftRight, hs, Nat.mod_eq_of_lt hj, BitVec.toNat_ushiftRight]
    rfl
  rw [← Int64.toBitVec_inj, Int64.toBitVec_and, e]
  show w.toBitVec >>> j &&& 1#64 = 0#64 ↔ _
  constructor
  · intro h
    have t := congrArg (fun x => x.getLsbD 0) h
    simpa using t
  · intro h
    apply BitVec.eq_of_getLsbD_eq
    intro i hi
    cases i with
    | zero => simp [h]
    | succ i => simp
theorem ts_or {w m : Int64} {j : Nat} (hj : j < 64) (hm : m.toBitVec = BitVec.twoPow 64 j) : (w ||| m) = w ↔ w.toBitVec.getLsbD j = true := by
  rw [← Int64.toBitVec_inj, Int64.toBitVec_or, hm]
  constructor
  · intro h
    have t := congrArg (fun x => x.getLsbD j) h
    simp only [BitVec.getLsbD_or, BitVec.getLsbD_twoPow] at t
    simpa [hj] using t.symm
  · intro h
    apply BitVec.eq_of_getLsbD_eq
    intro i hi
    rw [BitVec.getLsbD_or, BitVec.getLsbD_twoPow]
    by_cases e : j = i
    · subst e; rw [h, Bool.true_or]
    · simp [e]
theorem ts_and {w m : Int64} {j : Nat} (hj : j < 64) (hm : m.toBitVec = BitVec.twoPow 64 j) : (w &&& (m ^^^ (-1))) = w ↔ w.toBitVec.getLsbD j = false := by
  have ha : (-1 : Int64).toBitVec = BitVec.allOnes 64 := by decide
  rw [← Int64.toBitVec_inj, Int64.toBitVec_and, Int64.toBitVec_xor, hm, ha]
  constructor
  · intro h
    have t := congrArg (fun x => x.getLsbD j) h
    simp only [BitVec.getLsbD_and, BitVec.getLsbD_xor, BitVec.getLsbD_twoPow, BitVec.getLsbD_allOnes] at t
    simpa [hj] using t.symm
  · intro h
    apply BitVec.eq_of_getLsbD_eq
    intro i hi
    rw [BitVec.getLsbD_and, BitVec.getLsbD_xor, BitVec.getLsbD_twoPow, BitVec.getLsbD_allOnes]
    by_cases e : j = i
    · subst e; rw [h, Bool.false_and]
    · simp [e, hi]
/-! ===== lN n to 2^64: shifts, and, or, masks, one bit ===== -/
theorem wb_tb (n : Nat) : (lN n).toBitVec = BitVec.ofNat 64 n := rfl
theorem wb_inj {a b : Int64} (h : a.toBitVec = b.toBitVec) : a = b := Int64.toBitVec_inj.mp h
theorem wb_tn {n : Nat} (h : n < 2 ^ 64) : (lN n).toBitVec.toNat = n := by rw [wb_tb, BitVec.toNat_ofNat, Nat.mod_eq_of_lt h]
theorem wb_of (x : Int64) : ∃ n, n < 2 ^ 64 ∧ x = lN n := ⟨x.toBitVec.toNat, x.toBitVec.isLt, wb_inj (by rw [wb_tb]; simp)⟩
theorem wb_of32 (x : Int32) : ∃ n, n < 2 ^ 32 ∧ x = nI n := ⟨x.toBitVec.toNat, x.toBitVec.isLt, Int32.toBitVec_inj.mp (by show _ = BitVec.ofNat 32 _; simp)⟩
theorem wb_c : ∀ k, k < 64 → ((nI k).toInt64 &&& 63) = lN k := by decide +kernel
theorem wb_cu : ∀ k, k < 64 → ((nI k).toInt64.toUInt64 &&& Int64.toUInt64 63) = UInt64.ofNat k := by decide +kernel
theorem wb_sm : ∀ k, k < 64 → (BitVec.ofNat 64 k).smod 64 = BitVec.ofNat 64 k := by decide +kernel
theorem wb_pw {a b : Nat} (h : a ≤ b) : 2 ^ b = 2 ^ a * 2 ^ (b - a) := by rw [← Nat.pow_add]; congr 1; omega
theorem wb_lt2 {a b : Nat} (h : a < b) : 2 ^ a < 2 ^ b := Nat.pow_lt_pow_right (by decide) h
theorem wb_mod (n : Nat) : lN n = lN (n % 2 ^ 64) := wb_inj (by rw [wb_tb, wb_tb]; apply BitVec.eq_of_toNat_eq; rw [BitVec.toNat_ofNat, BitVec.toNat_ofNat, Nat.mod_mod])
theorem wb_shr {n k : Nat} (hn : n < 2 ^ 64) (hk : k < 64) : ((lN n).toUInt64 >>> ((nI k).toInt64.toUInt64 &&& Int64.toUInt64 63)).toInt64 = lN (n / 2 ^ k) := by
  rw [wb_cu k hk]
  apply wb_inj
  apply BitVec.eq_of_toNat_eq
  show ((lN n).toUInt64 >>> UInt64.ofNat k).toNat = (BitVec.ofNat 64 _).toNat
  have h1 : (UInt64.ofNat k).toNat = k := by
    show (BitVec.ofNat 64 k).toNat = k
    rw [BitVec.toNat_ofNat, Nat.mod_eq_of_lt (by omega)]
  have h2 : (lN n).toUInt64.toNat = n := wb_tn hn
  rw [UInt64.toNat_shiftRight, h1, h2, Nat.mod_eq_of_lt hk, Nat.shiftRight_eq_div_pow, BitVec.toNat_ofNat, Nat.mod_eq_of_lt (Nat.lt_of_le_of_lt (Nat.div_le_self _ _) hn)]
theorem wb_shl (n : Nat) {k : Nat} (hk : k < 64) : lN n <<< ((nI k).toInt64 &&& 63) = lN (n * 2 ^ k) := by
  rw [wb_c k hk]
  apply wb_inj
  rw [Int64.toBitVec_shiftLeft, wb_tb, wb_tb, wb_tb, wb_sm k hk]
  apply BitVec.eq_of_toNat_eq
  rw [BitVec.shiftLeft_eq', BitVec.toNat_shiftLeft, BitVec.toNat_ofNat, BitVec.toNat_ofNat, BitVec.toNat_ofNat, Nat.mod_eq_of_lt (show k < 2 ^ 64 by omega), Nat.shiftLeft_eq, Nat.mul_mod, Nat.mod_mod, ← Nat.mul_mod]
theorem wb_and {a b : Nat} (ha : a < 2 ^ 64) (hb : b < 2 ^ 64) : lN a &&& lN b = lN (a &&& b) := by
  apply wb_inj
  rw [Int64.toBitVec_and, wb_tb, wb_tb, wb_tb]
  apply BitVec.eq_of_toNat_eq
  rw [BitVec.toNat_and, BitVec.toNat_ofNat, BitVec.toNat_ofNat, BitVec.toNat_ofNat, Nat.mod_eq_of_lt ha, Nat.mod_eq_of_lt hb, Nat.mod_eq_of_lt (Nat.and_lt_two_pow _ hb)]
theorem wb_or {a b : Nat} (ha : a < 2 ^ 64) (hb : b < 2 ^ 64) : lN a ||| lN b = lN (a ||| b) := by
  apply wb_inj
  rw [Int64.toBitVec_or, wb_tb, wb_tb, wb_tb]
  apply BitVec.eq_of_toNat_eq
  rw [BitVec.toNat_or, BitVec.toNat_ofNat, BitVec.toNat_ofNat, BitVec.toNat_ofNat, Nat.mod_eq_of_lt ha, Nat.mod_eq_of_lt hb, Nat.mod_eq_of_lt (Nat.or_lt_two_pow ha hb)]
theorem wb_mask {n k : Nat} (hn : n < 2 ^ 64) (hk : k < 64) : lN n &&& lN (2 ^ k - 1) = lN (n % 2 ^ k) := by
  rw [wb_and hn (by have := wb_lt2 hk; omega), Nat.and_two_pow_sub_one_eq_mod]
theorem wb_a1 {n : Nat} (hn : n < 2 ^ 64) : lN n &&& 1 = lN (n % 2) := wb_mask (k := 1) hn (by decide)
theorem wb_bit {n k : Nat} (hn : n < 2 ^ 64) (hk : k < 64) : ((lN n).toUInt64 >>> ((nI k).toInt64.toUInt64 &&& Int64.toUInt64 63)).toInt64 &&& 1 = lN (n / 2 ^ k % 2) := by
  rw [wb_shr hn hk, wb_a1 (Nat.lt_of_le_of_lt (Nat.div_le_self _ _) hn)]
theorem wb_xor {q k : Nat} (hk : k < 63) (h : 2 ^ k ≤ q) (h2 : q < 2 ^ (k + 1)) : lN q ^^^ lN (2 ^ k) = lN (q - 2 ^ k) := by
  obtain ⟨r, rfl⟩ : ∃ r, q = 2 ^ k + r := ⟨q - 2 ^ k, by omega⟩
  have hr : r < 2 ^ k := by rw [Nat.pow_succ] at h2; omega
  have hx : (2 ^ k + r) ^^^ 2 ^ k = r := by
    apply Nat.eq_of_testBit_eq
    intro i
    rw [Nat.testBit_xor, Nat.testBit_two_pow]
    rcases Nat.lt_trichotomy i k with h | h | h
    · rw [Nat.testBit_two_pow_add_gt h]
      simp [show ¬ k = i by omega]
    · subst h
      rw [Nat.testBit_two_pow_add_eq]
      simp
    · have a1 : 2 ^ (k + 1) ≤ 2 ^ i := Nat.pow_le_pow_right (by decide) h
      rw [Nat.testBit_lt_two_pow (show 2 ^ k + r < 2 ^ i by omega), Nat.testBit_lt_two_pow (show r < 2 ^ i by omega)]
      simp [show ¬ k = i by omega]
  have b1 := wb_lt2 (show k + 1 < 64 by omega)
  have b2 := wb_lt2 (show k < 64 by omega)
  apply wb_inj
  rw [Int64.toBitVec_xor, wb_tb, wb_tb, wb_tb]
  apply BitVec.eq_of_toNat_eq
  rw [BitVec.toNat_xor, BitVec.toNat_ofNat, BitVec.toNat_ofNat, BitVec.toNat_ofNat, Nat.mod_eq_of_lt (by omega : 2 ^ k + r < 2 ^ 64), Nat.mod_eq_of_lt b2, hx, Nat.add_sub_cancel_left, Nat.mod_eq_of_lt (by omega)]
/-! ===== lN: masks, 'or' of parts that don't overlap is a sum ===== -/
theorem u_tn {n : Nat} (h : n < 2 ^ 64) : (UInt64.ofNat n).toNat = n := Nat.mod_eq_of_lt h
theorem g_and {a b c : Nat} (ha : a < 2 ^ 64) (hb : b < 2 ^ 64) (hc : a &&& b = c) : lN a &&& lN b = lN c := by
  subst hc
  have h : UInt64.ofNat a &&& UInt64.ofNat b = UInt64.ofNat (a &&& b) := UInt64.toNat_inj.mp (by rw [UInt64.toNat_and, u_tn ha, u_tn hb, u_tn (Nat.and_lt_two_pow a hb)])
  have h2 := congrArg UInt64.toInt64 h
  exact h2
theorem g_and1 {a : Nat} (ha : a < 2 ^ 64) : lN a &&& 1 = lN (a % 2) := g_and (b := 1) ha (by decide) (Nat.and_two_pow_sub_one_eq_mod a 1)
theorem g_mask {a s p : Nat} (hp : 2 ^ s = p) (hs : s < 64) (ha : a < 2 ^ 64) : lN a &&& lN (p - 1) = lN (a % p) := by
  subst hp
  have := Nat.pow_lt_pow_right (show 1 < 2 by decide) hs
  exact g_and ha (by omega) (Nat.and_two_pow_sub_one_eq_mod a s)
theorem g_or {k p a b : Nat} (hp : 2 ^ k = p) (ha : a < p) (h : b * p + a < 2 ^ 64) : lN (b * p) ||| lN a = lN (b * p + a) := by
  subst hp
  have h1 : b * 2 ^ k ||| a = b * 2 ^ k + a := by rw [← Nat.shiftLeft_eq, Nat.shiftLeft_add_eq_or_of_lt ha]
  have h3 : UInt64.ofNat (b * 2 ^ k) ||| UInt64.ofNat a = UInt64.ofNat (b * 2 ^ k + a) := UInt64.toNat_inj.mp (by rw [UInt64.toNat_or, u_tn (by omega), u_tn (by omega), u_tn h, h1])
  have h2 := congrArg UInt64.toInt64 h3
  exact h2
theorem g_or' {k p a b : Nat} (hp : 2 ^ k = p) (ha : a < p) (h : a + b * p < 2 ^ 64) : lN a ||| lN (b * p) = lN (a + b * p) := by
  rw [Int64.or_comm, g_or hp ha (by omega), Nat.add_comm]
theorem g_ushr {a k p : Nat} {y : UInt64} (hy : y = UInt64.ofNat k) (hk : k < 64) (hp : 2 ^ k = p) (ha : a < 2 ^ 64) : ((lN a).toUInt64 >>> y).toInt64 = lN (a / p) := by
  subst hy hp
  have h : UInt64.ofNat a >>> UInt64.ofNat k = UInt64.ofNat (a / 2 ^ k) := UInt64.toNat_inj.mp (by rw [UInt64.toNat_shiftRight, u_tn ha, u_tn (by omega), u_tn (Nat.lt_of_le_of_lt (Nat.div_le_self _ _) ha), Nat.mod_eq_of_lt hk, Nat.shiftRight_eq_div_pow])
  have h2 := congrArg UInt64.toInt64 h
  exact h2
theorem g_shl {a k p : Nat} {y : Int64} (hy : y.toBitVec.smod 64 = BitVec.ofNat 64 k) (hk : k < 64) (hp : 2 ^ k = p) (ha : a < 2 ^ 64) : lN a <<< y = lN (a * p) := by
  subst hp
  apply Int64.toBitVec_inj.mp
  rw [Int64.toBitVec_shiftLeft, hy]
  apply BitVec.eq_of_toNat_eq
  have hb : (lN a).toBitVec.toNat = a := Nat.mod_eq_of_lt ha
  have hk' : (BitVec.ofNat 64 k).toNat = k := Nat.mod_eq_of_lt (by omega)
  have h : ((lN a).toBitVec <<< BitVec.ofNat 64 k).toNat = (a * 2 ^ k) % 2 ^ 64 := by simp only [BitVec.shiftLeft_eq', BitVec.toNat_shiftLeft, hb, hk', Nat.shiftLeft_eq]
  exact h
/-! ===== lN to 2^62 under >> and >>> ===== -/
theorem pf_lI {a : Nat} (h : a < 2 ^ 63) : (lN a).toInt = (a : Int) := lg_ofNat_toInt h
theorem pf_shr {a d : Nat} {D : Int64} (hD : (D.toBitVec.smod 64).toNat = d) (h : a < 2 ^ 62) : lN a >>> D = lN (a / 2 ^ d) := by
  have hd : a / 2 ^ d ≤ a := Nat.div_le_self _ _
  apply Int64.toInt_inj.mp
  have e : (lN a >>> D).toInt = (lN a).toInt >>> d := by
    rw [← hD]
    exact BitVec.toInt_sshiftRight ..
  rw [e, Int.shiftRight_eq_div_pow, pf_lI (by omega), pf_lI (by omega)]
  rfl
theorem pf_ushr {a d : Nat} {D : UInt64} (hD : D.toNat % 64 = d) (h : a < 2 ^ 62) : ((lN a).toUInt64 >>> D).toInt64 = lN (a / 2 ^ d) := by
  have hd : a / 2 ^ d ≤ a := Nat.div_le_self _ _
  have e : (lN a).toUInt64 >>> D = UInt64.ofNat (a / 2 ^ d) := UInt64.toNat_inj.mp (by
    rw [UInt64.toNat_shiftRight, hD, Nat.shiftRight_eq_div_pow, UInt64.toNat_ofNat']
    show (UInt64.ofNat a).toNat / 2 ^ d = _
    rw [UInt64.toNat_ofNat', Nat.mod_eq_of_lt (by omega), Nat.mod_eq_of_lt (by omega)])
  rw [e]
  rfl
theorem pf_andw (x : Int64) : ∃ m, m < 2 ^ 32 ∧ x &&& 4294967295 = lN m := ⟨x.toBitVec.toNat % 2 ^ 32, Nat.mod_lt _ (by decide), Int64.toBitVec_inj.mp (BitVec.eq_of_toNat_eq (by
  show (x.toBitVec &&& 4294967295#64).toNat = (BitVec.ofNat 64 (x.toBitVec.toNat % 2 ^ 32)).toNat
  rw [BitVec.toNat_and, show (4294967295#64).toNat = 2 ^ 32 - 1 from by decide, Nat.and_two_pow_sub_one_eq_mod, BitVec.toNat_ofNat]
  omega))⟩
/-! ===== Int64 as an unsigned number: uN x ===== -/
def uN (x : Int64) : Nat := x.toUInt64.toNat
theorem uN_lt (x : Int64) : uN x < 18446744073709551616 := x.toUInt64.toNat_lt
theorem uN_inj {x y : Int64} (h : uN x = uN y) : x = y := congrArg UInt64.toInt64 (UInt64.toNat_inj.mp h)
theorem uN_add (x y : Int64) : uN (x + y) = (uN x + uN y) % 18446744073709551616 := by
  show (x.toUInt64 + y.toUInt64).toNat = _
  exact UInt64.toNat_add _ _
theorem uN_mul (x y : Int64) : uN (x * y) = (uN x * uN y) % 18446744073709551616 := by
  show (x.toUInt64 * y.toUInt64).toNat = _
  exact UInt64.toNat_mul _ _
theorem uN_shl (x : Int64) : uN (x <<< ((1 : Int32).toInt64 &&& 63)) = (2 * uN x) % 18446744073709551616 := by
  have h : (((1 : Int32).toInt64 &&& 63).toBitVec.smod 64).toNat = 1 := by decide
  show (x.toBitVec <<< (((1 : Int32).toInt64 &&& 63).toBitVec.smod 64).toNat).toNat = _
  rw [h, BitVec.toNat_shiftLeft, Nat.shiftLeft_eq, Nat.mul_comm]
  rfl
theorem uN_shr (x : Int64) (s : UInt64) : uN (x.toUInt64 >>> s).toInt64 = uN x / 2 ^ (s.toNat % 64) := by
  show (x.toUInt64 >>> s).toNat = _
  rw [UInt64.toNat_shiftRight, Nat.shiftRight_eq_div_pow]
  rfl
theorem uN_s32 (x : Int64) : uN (x.toUInt64 >>> ((32 : Int32).toInt64.toUInt64 &&& Int64.toUInt64 63)).toInt64 = uN x / 4294967296 := by
  have h : ((32 : Int32).toInt64.toUInt64 &&& Int64.toUInt64 63).toNat % 64 = 32 := by decide
  rw [uN_shr, h]
theorem uN_s63 (x : Int64) : uN (x.toUInt64 >>> ((63 : Int32).toInt64.toUInt64 &&& Int64.toUInt64 63)).toInt64 = uN x / 9223372036854775808 := by
  have h : ((63 : Int32).toInt64.toUInt64 &&& Int64.toUInt64 63).toNat % 64 = 63 := by decide
  rw [uN_shr, h]
theorem uN_lo (x : Int64) : uN (x &&& 4294967295) = uN x % 4294967296 := by
  show (x.toUInt64 &&& Int64.toUInt64 4294967295).toNat = _
  rw [UInt64.toNat_and]
  exact Nat.and_two_pow_sub_one_eq_mod _ 32
theorem uN_bit (x : Int64) : (x &&& 1) = 0 ↔ uN x % 2 = 0 := by
  have h : uN (x &&& 1) = uN x % 2 := by
    show (x.toUInt64 &&& Int64.toUInt64 1).toNat = _
    rw [UInt64.toNat_and]
    exact Nat.and_two_pow_sub_one_eq_mod _ 1
  rw [← h]
  exact ⟨fun z => by rw [z]; rfl, fun z => uN_inj (z.trans rfl)⟩
theorem uN_or {x y : Int64} (hy : uN y < 2) : uN ((x <<< ((1 : Int32).toInt64 &&& 63)) ||| y) = (2 * uN x) % 18446744073709551616 + uN y := by
  have h1 : uN ((x <<< ((1 : Int32).toInt64 &&& 63)) ||| y) = uN (x <<< ((1 : Int32).toInt64 &&& 63)) ||| uN y := UInt64.toNat_or _ _
  have h2 : (2 * uN x) % 18446744073709551616 = 2 ^ 1 * (uN x % 9223372036854775808) := by omega
  rw [h1, uN_shl, h2]
  exact (Nat.two_pow_add_eq_or_of_lt (i := 1) hy _).symm
theorem nat_xor {a : Nat} (h : a < 18446744073709551616) : a ^^^ 2 ^ 63 = (a + 9223372036854775808) % 18446744073709551616 := by
  have h1 : (a ^^^ 2 ^ 63) % 2 ^ 63 = a % 2 ^ 63 := by rw [Nat.xor_mod_two_pow, Nat.mod_self, Nat.xor_zero]
  have h2 : (a ^^^ 2 ^ 63) / 2 ^ 63 = (a / 2 ^ 63) ^^^ 1 := by rw [Nat.xor_div_two_pow, Nat.div_self (Nat.two_pow_pos 63)]
  have h3 : a / 2 ^ 63 = 0 ∨ a / 2 ^ 63 = 1 := by omega
  generalize a ^^^ 2 ^ 63 = t at h1 h2
  rcases h3 with h3 | h3
  · rw [h3] at h2
    have h2 : t / 2 ^ 63 = 1 := h2
    omega
  · rw [h3] at h2
    have h2 : t / 2 ^ 63 = 0 := h2
    omega
theorem uN_xor (x : Int64) : uN (x ^^^ (-9223372036854775808)) = (uN x + 9223372036854775808) % 18446744073709551616 := by
  rw [← nat_xor (uN_lt x)]
  exact UInt64.toNat_xor _ _
theorem uN_int (x : Int64) : x.toInt = if 2 * uN x < 18446744073709551616 then (uN x : Int) else (uN x : Int) - 18446744073709551616 := BitVec.toInt_eq_toNat_cond _
theorem uN_le (x y : Int64) : (x ^^^ (-9223372036854775808)) ≤ (y ^^^ (-9223372036854775808)) ↔ uN x ≤ uN y := by
  have hx := uN_lt x
  have hy := uN_lt y
  rw [Int64.le_iff_toInt_le, uN_int, uN_int, uN_xor, uN_xor]
  omega
theorem uN_sk (x : Int64) {k : Nat} (hk : k < 64) : uN (x.toUInt64 >>> ((nI k).toInt64.toUInt64 &&& Int64.toUInt64 63)).toInt64 = uN x / 2 ^ k := by
  have h : ((nI k).toInt64.toUInt64 &&& Int64.toUInt64 63).toNat % 64 = k := by
    rw [nI_l (by omega), UInt64.toNat_and]
    have e : (lN k).toUInt64.toNat = k % 2 ^ 64 := rfl
    have e2 : (Int64.toUInt64 63).toNat = 2 ^ 6 - 1 := by decide
    rw [e, e2, Nat.and_two_pow_sub_one_eq_mod]
    omega
  rw [uN_shr, h]
/-! ===== unsigned comparison by xor with the least ===== -/
theorem lN_bv (n : Nat) : (lN n).toBitVec = BitVec.ofNat 64 n := rfl
theorem lN_nat {n : Nat} (h : n < 2 ^ 64) : (lN n).toBitVec.toNat = n := by rw [lN_bv, BitVec.toNat_ofNat]; exact Nat.mod_eq_of_lt h
theorem lN_xor (a b : Nat) : lN a ^^^ lN b = lN (a ^^^ b) := by
  apply Int64.toBitVec_inj.mp; rw [Int64.toBitVec_xor, lN_bv, lN_bv, lN_bv]; apply BitVec.eq_of_getLsbD_eq; intro i hi; simp [BitVec.getLsbD_ofNat, Nat.testBit_xor, hi]
theorem lN_ti {m : Nat} (h : m < 2 ^ 64) : (lN m).toInt = if m < 2 ^ 63 then (m : Int) else (m : Int) - 2 ^ 64 := by
  have c := BitVec.toInt_eq_toNat_cond (lN m).toBitVec
  rw [lN_nat h] at c
  show (lN m).toBitVec.toInt = _
  rw [c]
  split <;> split <;> omega
theorem xor63 {x : Nat} (h : x < 2 ^ 63) : x ^^^ 2 ^ 63 = 2 ^ 63 + x := by
  apply Nat.eq_of_testBit_eq
  intro i
  rw [Nat.testBit_xor, Nat.testBit_two_pow]
  rcases Nat.lt_trichotomy i 63 with z | z | z
  · rw [Nat.testBit_two_pow_add_gt z, decide_eq_false (by omega)]; simp
  · subst z; rw [Nat.testBit_two_pow_add_eq]; simp
  · have hp : 2 ^ 64 ≤ 2 ^ i := Nat.pow_le_pow_right (by decide) z
    rw [Nat.testBit_lt_two_pow (show x < 2 ^ i by omega), Nat.testBit_lt_two_pow (show 2 ^ 63 + x < 2 ^ i by omega), decide_eq_false (by omega)]; rfl
theorem xorS {a : Nat} (h : a < 2 ^ 64) : (lN a ^^^ (-9223372036854775808)).toInt = (a : Int) - 2 ^ 63 := by
  rw [show (-9223372036854775808 : Int64) = lN (2 ^ 63) from by decide +kernel, lN_xor]
  rcases Nat.lt_or_ge a (2 ^ 63) with z | z
  · rw [xor63 z, lN_ti (by omega), if_neg (by omega)]; omega
  · obtain ⟨x, rfl⟩ : ∃ x, a = 2 ^ 63 + x := ⟨a - 2 ^ 63, by omega⟩
    rw [← xor63 (by omega), Nat.xor_assoc, Nat.xor_self, Nat.xor_zero, lN_ti (by omega), if_pos (by omega), xor63 (by omega)]; omega
theorem ultL {a b : Nat} (ha : a < 2 ^ 64) (hb : b < 2 ^ 64) : ((lN b ^^^ (-9223372036854775808)) ≤ (lN a ^^^ (-9223372036854775808))) ↔ b ≤ a := by
  rw [Int64.le_iff_toInt_le, xorS ha, xorS hb]; omega
/-! ===== Int64 masks of n low bits ===== -/
theorem cr_bits (W U M : BitVec 64) : ((W &&& U) &&& (U &&& (M ^^^ BitVec.allOnes 64))) = 0#64 ↔ (W &&& U) &&& M = W &&& U := by
  constructor
  · intro h
    apply BitVec.eq_of_getLsbD_eq
    intro i hi
    have e := congrArg (fun x => BitVec.getLsbD x i) h
    simp only [BitVec.getLsbD_and, BitVec.getLsbD_xor, BitVec.getLsbD_allOnes, BitVec.getLsbD_zero, hi, decide_true] at e ⊢
    revert e
    cases W.getLsbD i <;> cases U.getLsbD i <;> cases M.getLsbD i <;> decide
  · intro h
    apply BitVec.eq_of_getLsbD_eq
    intro i hi
    have e := congrArg (fun x => BitVec.getLsbD x i) h
    simp only [BitVec.getLsbD_and, BitVec.getLsbD_xor, BitVec.getLsbD_allOnes, BitVec.getLsbD_zero, hi, decide_true] at e ⊢
    revert e
    cases W.getLsbD i <;> cases U.getLsbD i <;> cases M.getLsbD i <;> decide
theorem cr_mask (w U m : Int64) (n : Nat) (hm : m.toBitVec.toNat = 2 ^ n - 1) : ((w &&& U) &&& (U &&& (m ^^^ (-1)))) = 0 ↔ (w &&& U).toBitVec.toNat < 2 ^ n := by
  have e0 : (-1 : Int64).toBitVec = BitVec.allOnes 64 := by decide
  have z0 : (0 : Int64).toBitVec = 0#64 := by decide
  rw [← Int64.toBitVec_inj, z0, Int64.toBitVec_and, Int64.toBitVec_and, Int64.toBitVec_and, Int64.toBitVec_xor, e0, cr_bits]
  generalize w.toBitVec &&& U.toBitVec = T
  rw [← BitVec.toNat_inj, BitVec.toNat_and, hm, Nat.and_two_pow_sub_one_eq_mod]
  constructor
  · intro h
    have t := Nat.mod_lt T.toNat (Nat.two_pow_pos n)
    rw [h] at t
    exact t
  · exact Nat.mod_eq_of_lt
theorem cr_shr (t : Int64) (x : UInt64) (n : Nat) (hx : x.toNat % 64 = n) : (t.toUInt64 >>> x).toInt64 = 0 ↔ t.toBitVec.toNat < 2 ^ n := by
  rw [← Int64.toBitVec_inj, ← BitVec.toNat_inj]
  show (t.toUInt64 >>> x).toNat = 0 ↔ t.toUInt64.toNat < 2 ^ n
  rw [UInt64.toNat_shiftRight, hx, Nat.shiftRight_eq_div_pow]
  constructor
  · intro h
    have d : t.toUInt64.toNat / 2 ^ n < 1 := by
      rw [h]
      decide
    have e := (Nat.div_lt_iff_lt_mul (Nat.two_pow_pos n)).mp d
    rw [Nat.one_mul] at e
    exact e
  · exact Nat.div_eq_of_lt
theorem cr_amt (s : Int64) : ∃ n, n < 64 ∧ s &&& 63 = lN n ∧ (s.toUInt64 &&& Int64.toUInt64 63).toNat % 64 = n := by
  have e : (s.toUInt64 &&& Int64.toUInt64 63).toNat = s.toUInt64.toNat % 2 ^ 6 := by
    rw [UInt64.toNat_and, show (Int64.toUInt64 63).toNat = 2 ^ 6 - 1 from by decide, Nat.and_two_pow_sub_one_eq_mod]
  refine ⟨s.toUInt64.toNat % 2 ^ 6, by omega, ?_, by omega⟩
  rw [← Int64.toBitVec_inj, ← BitVec.toNat_inj]
  show (s.toUInt64 &&& Int64.toUInt64 63).toNat = (BitVec.ofNat 64 (s.toUInt64.toNat % 2 ^ 6)).toNat
  rw [e, BitVec.toNat_ofNat]
  omega
end
section
/-! the state in six groups: code, machine, scratch of a run, blocks, translator, disk; a getter a component; a wrapper a loop -/
abbrev ty_C : Type := Int32 × (Nat → Int32) × (Nat → Int32)
abbrev ty_M : Type := Int32 × Int32 × Int32 × Int32 × Int32 × Int32 × Int32 × (Nat → Int32) × (Nat → Int32) × (Nat → Int32) × (Nat → Int32) × (Nat → Int32)
abbrev ty_E : Type := (Nat → Int32) × (Nat → Int32)
abbrev ty_B : Type := Int32 × Int32 × (Nat → Int32) × (Nat → Int32) × (Nat → Int32) × (Nat → Int32) × (Nat → Int32) × (Nat → Int32) × (Nat → Int32) × (Nat → Int32) × (Nat → Int32) × (Nat → Int32) × (Nat → Int32) × (Nat → Int32)
abbrev ty_X : Type := Int32 × Int32 × Int32 × Int32 × Int32 × Int32 × (Nat → Int32) × (Nat → Int32) × (Nat → Int32) × (Nat → Int32) × (Nat → Int32) × (Nat → Int32) × (Nat → Int32)
abbrev ty_D : Type := Int32 × Int32 × Int32 × (Nat → Int32) × (Nat → Int32) × (Nat → Int32) × (Nat → Int32) × (Nat → Int32) × (Nat → Int32)
abbrev gc_size (c : ty_C) : Int32 := c.1
abbrev gc_ops (c : ty_C) : (Nat → Int32) := c.2.1
abbrev gc_numbers (c : ty_C) : (Nat → Int32) := c.2.2
abbrev gm_status (m : ty_M) : Int32 := m.1
abbrev gm_at (m : ty_M) : Int32 := m.2.1
abbrev gm_stackSize (m : ty_M) : Int32 := m.2.2.1
abbrev gm_returnSize (m : ty_M) : Int32 := m.2.2.2.1
abbrev gm_inputSize (m : ty_M) : Int32 := m.2.2.2.2.1
abbrev gm_outputSize (m : ty_M) : Int32 := m.2.2.2.2.2.1
abbrev gm_changedPages (m : ty_M) : Int32 := m.2.2.2.2.2.2.1
abbrev gm_stack (m : ty_M) : (Nat → Int32) := m.2.2.2.2.2.2.2.1
abbrev gm_returns (m : ty_M) : (Nat → Int32) := m.2.2.2.2.2.2.2.2.1
abbrev gm_words (m : ty_M) : (Nat → Int32) := m.2.2.2.2.2.2.2.2.2.1
abbrev gm_inputs (m : ty_M) : (Nat → Int32) := m.2.2.2.2.2.2.2.2.2.2.1
abbrev gm_outs (m : ty_M) : (Nat → Int32) := m.2.2.2.2.2.2.2.2.2.2.2
abbrev ge_oldValues (e : ty_E) : (Nat → Int32) := e.1
abbrev ge_tempValues (e : ty_E) : (Nat → Int32) := e.2
abbrev gb_blocks (b : ty_B) : Int32 := b.1
abbrev gb_finals (b : ty_B) : Int32 := b.2.1
abbrev gb_blockAt (b : ty_B) : (Nat → Int32) := b.2.2.1
abbrev gb_leads (b : ty_B) : (Nat → Int32) := b.2.2.2.1
abbrev gb_blockCost (b : ty_B) : (Nat → Int32) := b.2.2.2.2.1
abbrev gb_blockNeed (b : ty_B) : (Nat → Int32) := b.2.2.2.2.2.1
abbrev gb_blockPeak (b : ty_B) : (Nat → Int32) := b.2.2.2.2.2.2.1
abbrev gb_microFrom (b : ty_B) : (Nat → Int32) := b.2.2.2.2.2.2.2.1
abbrev gb_finalFrom (b : ty_B) : (Nat → Int32) := b.2.2.2.2.2.2.2.2.1
abbrev gb_blockNext (b : ty_B) : (Nat → Int32) := b.2.2.2.2.2.2.2.2.2.1
abbrev gb_blockTest (b : ty_B) : (Nat → Int32) := b.2.2.2.2.2.2.2.2.2.2.1
abbrev gb_blockTarget (b : ty_B) : (Nat → Int32) := b.2.2.2.2.2.2.2.2.2.2.2.1
abbrev gb_microUsed (b : ty_B) : (Nat → Int32) := b.2.2.2.2.2.2.2.2.2.2.2.2.1
abbrev gb_finalOperand (b : ty_B) : (Nat → Int32) := b.2.2.2.2.2.2.2.2.2.2.2.2.2
abbrev gx_micros (x : ty_X) : Int32 := x.1
abbrev gx_constants (x : ty_X) : Int32 := x.2.1
abbrev gx_newSize (x : ty_X) : Int32 := x.2.2.1
abbrev gx_taken (x : ty_X) : Int32 := x.2.2.2.1
abbrev gx_peak (x : ty_X) : Int32 := x.2.2.2.2.1
abbrev gx_temps (x : ty_X) : Int32 := x.2.2.2.2.2.1
abbrev gx_microOp (x : ty_X) : (Nat → Int32) := x.2.2.2.2.2.2.1
abbrev gx_microTarget (x : ty_X) : (Nat → Int32) := x.2.2.2.2.2.2.2.1
abbrev gx_microA (x : ty_X) : (Nat → Int32) := x.2.2.2.2.2.2.2.2.1
abbrev gx_microB (x : ty_X) : (Nat → Int32) := x.2.2.2.2.2.2.2.2.2.1
abbrev gx_constant (x : ty_X) : (Nat → Int32) := x.2.2.2.2.2.2.2.2.2.2.1
abbrev gx_newStack (x : ty_X) : (Nat → Int32) := x.2.2.2.2.2.2.2.2.2.2.2.1
abbrev gx_wordOperand (x : ty_X) : (Nat → Int32) := x.2.2.2.2.2.2.2.2.2.2.2.2
abbrev gd_root (d : ty_D) : Int32 := d.1
abbrev gd_writesLeft (d : ty_D) : Int32 := d.2.1
abbrev gd_broken (d : ty_D) : Int32 := d.2.2.1
abbrev gd_disk (d : ty_D) : (Nat → Int32) := d.2.2.2.1
abbrev gd_roots (d : ty_D) : (Nat → Int32) := d.2.2.2.2.1
abbrev gd_table (d : ty_D) : (Nat → Int32) := d.2.2.2.2.2.1
abbrev gd_newTable (d : ty_D) : (Nat → Int32) := d.2.2.2.2.2.2.1
abbrev gd_placeUsed (d : ty_D) : (Nat → Int32) := d.2.2.2.2.2.2.2.1
abbrev gd_state (d : ty_D) : (Nat → Int32) := d.2.2.2.2.2.2.2.2
def mk_S (c : ty_C) (m : ty_M) (e : ty_E) (b : ty_B) (x : ty_X) (d : ty_D) : SX := (gc_size c, gm_status m, gm_at m, gm_stackSize m, gm_returnSize m, gm_inputSize m, gm_outputSize m, gb_blocks b, gx_micros x, gb_finals b, gx_constants x, gx_newSize x, gx_taken x, gx_peak x, gx_temps x, gd_root d, gm_changedPages m, gd_writesLeft d, gd_broken d, gc_ops c, gc_numbers c, gm_stack m, gm_returns m, gm_words m, gm_inputs m, gm_outs m, gb_blockAt b, gb_leads b, gb_blockCost b, gb_blockNeed b, gb_blockPeak b, gb_microFrom b, gb_finalFrom b, gb_blockNext b, gb_blockTest b, gb_blockTarget b, gx_microOp x, gx_microTarget x, gx_microA x, gx_microB x, gb_microUsed b, gb_finalOperand b, gx_constant x, gx_newStack x, gx_wordOperand x, ge_oldValues e, ge_tempValues e, gd_disk d, gd_roots d, gd_table d, gd_newTable d, gd_placeUsed d, gd_state d)
def pr_C (u : SX) : ty_C := (u.1, u.2.2.2.2.2.2.2.2.2.2.2.2.2.2.2.2.2.2.2.1, u.2.2.2.2.2.2.2.2.2.2.2.2.2.2.2.2.2.2.2.2.1)
def pr_M (u : SX) : ty_M := (u.2.1, u.2.2.1, u.2.2.2.1, u.2.2.2.2.1, u.2.2.2.2.2.1, u.2.2.2.2.2.2.1, u.2.2.2.2.2.2.2.2.2.2.2.2.2.2.2.2.1, u.2.2.2.2.2.2.2.2.2.2.2.2.2.2.2.2.2.2.2.2.2.1, u.2.2.2.2.2.2.2.2.2.2.2.2.2.2.2.2.2.2.2.2.2.2.1, u.2.2.2.2.2.2.2.2.2.2.2.2.2.2.2.2.2.2.2.2.2.2.2.1, u.2.2.2.2.2.2.2.2.2.2.2.2.2.2.2.2.2.2.2.2.2.2.2.2.1, u.2.2.2.2.2.2.2.2.2.2.2.2.2.2.2.2.2.2.2.2.2.2.2.2.2.1)
def pr_E (u : SX) : ty_E := (u.2.2.2.2.2.2.2.2.2.2.2.2.2.2.2.2.2.2.2.2.2.2.2.2.2.2.2.2.2.2.2.2.2.2.2.2.2.2.2.2.2.2.2.2.2.1, u.2.2.2.2.2.2.2.2.2.2.2.2.2.2.2.2.2.2.2.2.2.2.2.2.2.2.2.2.2.2.2.2.2.2.2.2.2.2.2.2.2.2.2.2.2.2.1)
def pr_B (u : SX) : ty_B := (u.2.2.2.2.2.2.2.1, u.2.2.2.2.2.2.2.2.2.1, u.2.2.2.2.2.2.2.2.2.2.2.2.2.2.2.2.2.2.2.2.2.2.2.2.2.2.1, u.2.2.2.2.2.2.2.2.2.2.2.2.2.2.2.2.2.2.2.2.2.2.2.2.2.2.2.1, u.2.2.2.2.2.2.2.2.2.2.2.2.2.2.2.2.2.2.2.2.2.2.2.2.2.2.2.2.1, u.2.2.2.2.2.2.2.2.2.2.2.2.2.2.2.2.2.2.2.2.2.2.2.2.2.2.2.2.2.1, u.2.2.2.2.2.2.2.2.2.2.2.2.2.2.2.2.2.2.2.2.2.2.2.2.2.2.2.2.2.2.1, u.2.2.2.2.2.2.2.2.2.2.2.2.2.2.2.2.2.2.2.2.2.2.2.2.2.2.2.2.2.2.2.1, u.2.2.2.2.2.2.2.2.2.2.2.2.2.2.2.2.2.2.2.2.2.2.2.2.2.2.2.2.2.2.2.2.1, u.2.2.2.2.2.2.2.2.2.2.2.2.2.2.2.2.2.2.2.2.2.2.2.2.2.2.2.2.2.2.2.2.2.1, u.2.2.2.2.2.2.2.2.2.2.2.2.2.2.2.2.2.2.2.2.2.2.2.2.2.2.2.2.2.2.2.2.2.2.1, u.2.2.2.2.2.2.2.2.2.2.2.2.2.2.2.2.2.2.2.2.2.2.2.2.2.2.2.2.2.2.2.2.2.2.2.1, u.2.2.2.2.2.2.2.2.2.2.2.2.2.2.2.2.2.2.2.2.2.2.2.2.2.2.2.2.2.2.2.2.2.2.2.2.2.2.2.2.1, u.2.2.2.2.2.2.2.2.2.2.2.2.2.2.2.2.2.2.2.2.2.2.2.2.2.2.2.2.2.2.2.2.2.2.2.2.2.2.2.2.2.1)
def pr_X (u : SX) : ty_X := (u.2.2.2.2.2.2.2.2.1, u.2.2.2.2.2.2.2.2.2.2.1, u.2.2.2.2.2.2.2.2.2.2.2.1, u.2.2.2.2.2.2.2.2.2.2.2.2.1, u.2.2.2.2.2.2.2.2.2.2.2.2.2.1, u.2.2.2.2.2.2.2.2.2.2.2.2.2.2.1, u.2.2.2.2.2.2.2.2.2.2.2.2.2.2.2.2.2.2.2.2.2.2.2.2.2.2.2.2.2.2.2.2.2.2.2.2.1, u.2.2.2.2.2.2.2.2.2.2.2.2.2.2.2.2.2.2.2.2.2.2.2.2.2.2.2.2.2.2.2.2.2.2.2.2.2.1, u.2.2.2.2.2.2.2.2.2.2.2.2.2.2.2.2.2.2.2.2.2.2.2.2.2.2.2.2.2.2.2.2.2.2.2.2.2.2.1, u.2.2.2.2.2.2.2.2.2.2.2.2.2.2.2.2.2.2.2.2.2.2.2.2.2.2.2.2.2.2.2.2.2.2.2.2.2.2.2.1, u.2.2.2.2.2.2.2.2.2.2.2.2.2.2.2.2.2.2.2.2.2.2.2.2.2.2.2.2.2.2.2.2.2.2.2.2.2.2.2.2.2.2.1, u.2.2.2.2.2.2.2.2.2.2.2.2.2.2.2.2.2.2.2.2.2.2.2.2.2.2.2.2.2.2.2.2.2.2.2.2.2.2.2.2.2.2.2.1, u.2.2.2.2.2.2.2.2.2.2.2.2.2.2.2.2.2.2.2.2.2.2.2.2.2.2.2.2.2.2.2.2.2.2.2.2.2.2.2.2.2.2.2.2.1)
def pr_D (u : SX) : ty_D := (u.2.2.2.2.2.2.2.2.2.2.2.2.2.2.2.1, u.2.2.2.2.2.2.2.2.2.2.2.2.2.2.2.2.2.1, u.2.2.2.2.2.2.2.2.2.2.2.2.2.2.2.2.2.2.1, u.2.2.2.2.2.2.2.2.2.2.2.2.2.2.2.2.2.2.2.2.2.2.2.2.2.2.2.2.2.2.2.2.2.2.2.2.2.2.2.2.2.2.2.2.2.2.2.1, u.2.2.2.2.2.2.2.2.2.2.2.2.2.2.2.2.2.2.2.2.2.2.2.2.2.2.2.2.2.2.2.2.2.2.2.2.2.2.2.2.2.2.2.2.2.2.2.2.1, u.2.2.2.2.2.2.2.2.2.2.2.2.2.2.2.2.2.2.2.2.2.2.2.2.2.2.2.2.2.2.2.2.2.2.2.2.2.2.2.2.2.2.2.2.2.2.2.2.2.1, u.2.2.2.2.2.2.2.2.2.2.2.2.2.2.2.2.2.2.2.2.2.2.2.2.2.2.2.2.2.2.2.2.2.2.2.2.2.2.2.2.2.2.2.2.2.2.2.2.2.2.1, u.2.2.2.2.2.2.2.2.2.2.2.2.2.2.2.2.2.2.2.2.2.2.2.2.2.2.2.2.2.2.2.2.2.2.2.2.2.2.2.2.2.2.2.2.2.2.2.2.2.2.2.1, u.2.2.2.2.2.2.2.2.2.2.2.2.2.2.2.2.2.2.2.2.2.2.2.2.2.2.2.2.2.2.2.2.2.2.2.2.2.2.2.2.2.2.2.2.2.2.2.2.2.2.2.2)
theorem mk_pr (u : SX) : u = mk_S (pr_C u) (pr_M u) (pr_E u) (pr_B u) (pr_X u) (pr_D u) := rfl
def lo_reset_32 (post : SX → Prop) (n : Nat) (x2 : Int32) (c : ty_C) (m : ty_M) (e : ty_E) (b : ty_B) (x : ty_X) (d : ty_D) : Prop := wX_reset_32 post (gc_size c) (gm_status m) (gm_at m) (gm_stackSize m) (gm_returnSize m) (gm_inputSize m) (gm_outputSize m) (gb_blocks b) (gx_micros x) (gb_finals b) (gx_constants x) (gx_newSize x) (gx_taken x) (gx_peak x) (gx_temps x) (gd_root d) (gm_changedPages m) (gd_writesLeft d) (gd_broken d) n x2 (gc_ops c) (gc_numbers c) (gm_stack m) (gm_returns m) (gm_words m) (gm_inputs m) (gm_outs m) (gb_blockAt b) (gb_leads b) (gb_blockCost b) (gb_blockNeed b) (gb_blockPeak b) (gb_microFrom b) (gb_finalFrom b) (gb_blockNext b) (gb_blockTest b) (gb_blockTarget b) (gx_microOp x) (gx_microTarget x) (gx_microA x) (gx_microB x) (gb_microUsed b) (gb_finalOperand b) (gx_constant x) (gx_newStack x) (gx_wordOperand x) (ge_oldValues e) (ge_tempValues e) (gd_disk d) (gd_roots d) (gd_table d) (gd_newTable d) (gd_placeUsed d) (gd_state d)
def lo_findLeaders_83 (post : SX → Prop) (J38 : Int32 → SX → Prop) (x1 : Int32) (x2 : Int32) (c : ty_C) (m : ty_M) (e : ty_E) (b : ty_B) (x : ty_X) (d : ty_D) : Prop := wX_findLeaders_83 post (fun y0 a_ops a_numbers a_stack a_returns a_words a_inputs a_outs a_blockAt a_leads a_blockCost a_blockNeed a_blockPeak a_microFrom a_finalFrom a_blockNext a_blockTest a_blockTarget a_microOp a_microTarget a_microA a_microB a_microUsed a_finalOperand a_constant a_newStack a_wordOperand a_oldValues a_tempValues a_disk a_roots a_table a_newTable a_placeUsed a_state => J38 y0 (gc_size c, gm_status m, gm_at m, gm_stackSize m, gm_returnSize m, gm_inputSize m, gm_outputSize m, gb_blocks b, gx_micros x, gb_finals b, gx_constants x, gx_newSize x, gx_taken x, gx_peak x, gx_temps x, gd_root d, gm_changedPages m, gd_writesLeft d, gd_broken d, a_ops, a_numbers, a_stack, a_returns, a_words, a_inputs, a_outs, a_blockAt, a_leads, a_blockCost, a_blockNeed, a_blockPeak, a_microFrom, a_finalFrom, a_blockNext, a_blockTest, a_blockTarget, a_microOp, a_microTarget, a_microA, a_microB, a_microUsed, a_finalOperand, a_constant, a_newStack, a_wordOperand, a_oldValues, a_tempValues, a_disk, a_roots, a_table, a_newTable, a_placeUsed, a_state)) x1 x2 (gc_size c) (gm_status m) (gm_at m) (gm_stackSize m) (gm_returnSize m) (gm_inputSize m) (gm_outputSize m) (gb_blocks b) (gx_micros x) (gb_finals b) (gx_constants x) (gx_newSize x) (gx_taken x) (gx_peak x) (gx_temps x) (gd_root d) (gm_changedPages m) (gd_writesLeft d) (gd_broken d) (gc_ops c) (gc_numbers c) (gm_stack m) (gm_returns m) (gm_words m) (gm_inputs m) (gm_outs m) (gb_blockAt b) (gb_leads b) (gb_blockCost b) (gb_blockNeed b) (gb_blockPeak b) (gb_microFrom b) (gb_finalFrom b) (gb_blockNext b) (gb_blockTest b) (gb_blockTarget b) (gx_microOp x) (gx_microTarget x) (gx_microA x) (gx_microB x) (gb_microUsed b) (gb_finalOperand b) (gx_constant x) (gx_newStack x) (gx_wordOperand x) (ge_oldValues e) (ge_tempValues e) (gd_disk d) (gd_roots d) (gd_table d) (gd_newTable d) (gd_placeUsed d) (gd_state d)
def lo_findLeaders_71 (post : SX → Prop) (J38 : Int32 → SX → Prop) (x1 : Int32) (x2 : Int32) (c : ty_C) (m : ty_M) (e : ty_E) (b : ty_B) (x : ty_X) (d : ty_D) : Prop := wX_findLeaders_71 post (fun y0 a_ops a_numbers a_stack a_returns a_words a_inputs a_outs a_blockAt a_leads a_blockCost a_blockNeed a_blockPeak a_microFrom a_finalFrom a_blockNext a_blockTest a_blockTarget a_microOp a_microTarget a_microA a_microB a_microUsed a_finalOperand a_constant a_newStack a_wordOperand a_oldValues a_tempValues a_disk a_roots a_table a_newTable a_placeUsed a_state => J38 y0 (gc_size c, gm_status m, gm_at m, gm_stackSize m, gm_returnSize m, gm_inputSize m, gm_outputSize m, gb_blocks b, gx_micros x, gb_finals b, gx_constants x, gx_newSize x, gx_taken x, gx_peak x, gx_temps x, gd_root d, gm_changedPages m, gd_writesLeft d, gd_broken d, a_ops, a_numbers, a_stack, a_returns, a_words, a_inputs, a_outs, a_blockAt, a_leads, a_blockCost, a_blockNeed, a_blockPeak, a_microFrom, a_finalFrom, a_blockNext, a_blockTest, a_blockTarget, a_microOp, a_microTarget, a_microA, a_microB, a_microUsed, a_finalOperand, a_constant, a_newStack, a_wordOperand, a_oldValues, a_tempValues, a_disk, a_roots, a_table, a_newTable, a_placeUsed, a_state)) x1 x2 (gc_size c) (gm_status m) (gm_at m) (gm_stackSize m) (gm_returnSize m) (gm_inputSize m) (gm_outputSize m) (gb_blocks b) (gx_micros x) (gb_finals b) (gx_constants x) (gx_newSize x) (gx_taken x) (gx_peak x) (gx_temps x) (gd_root d) (gm_changedPages m) (gd_writesLeft d) (gd_broken d) (gc_ops c) (gc_numbers c) (gm_stack m) (gm_returns m) (gm_words m) (gm_inputs m) (gm_outs m) (gb_blockAt b) (gb_leads b) (gb_blockCost b) (gb_blockNeed b) (gb_blockPeak b) (gb_microFrom b) (gb_finalFrom b) (gb_blockNext b) (gb_blockTest b) (gb_blockTarget b) (gx_microOp x) (gx_microTarget x) (gx_microA x) (gx_microB x) (gb_microUsed b) (gb_finalOperand b) (gx_constant x) (gx_newStack x) (gx_wordOperand x) (ge_oldValues e) (ge_tempValues e) (gd_disk d) (gd_roots d) (gd_table d) (gd_newTable d) (gd_placeUsed d) (gd_state d)
def lo_findLeaders_38 (post : SX → Prop) (n : Nat) (x1 : Int32) (c : ty_C) (m : ty_M) (e : ty_E) (b : ty_B) (x : ty_X) (d : ty_D) : Prop := wX_findLeaders_38 post (gc_size c) (gm_status m) (gm_at m) (gm_stackSize m) (gm_returnSize m) (gm_inputSize m) (gm_outputSize m) (gb_blocks b) (gx_micros x) (gb_finals b) (gx_constants x) (gx_newSize x) (gx_taken x) (gx_peak x) (gx_temps x) (gd_root d) (gm_changedPages m) (gd_writesLeft d) (gd_broken d) n x1 (gc_ops c) (gc_numbers c) (gm_stack m) (gm_returns m) (gm_words m) (gm_inputs m) (gm_outs m) (gb_blockAt b) (gb_leads b) (gb_blockCost b) (gb_blockNeed b) (gb_blockPeak b) (gb_microFrom b) (gb_finalFrom b) (gb_blockNext b) (gb_blockTest b) (gb_blockTarget b) (gx_microOp x) (gx_microTarget x) (gx_microA x) (gx_microB x) (gb_microUsed b) (gb_finalOperand b) (gx_constant x) (gx_newStack x) (gx_wordOperand x) (ge_oldValues e) (ge_tempValues e) (gd_disk d) (gd_roots d) (gd_table d) (gd_newTable d) (gd_placeUsed d) (gd_state d)
def lo_findLeaders_22 (post : SX → Prop) (J2 : Int32 → SX → Prop) (x1 : Int32) (z0 : Int32) (z1 : Int32) (c : ty_C) (m : ty_M) (e : ty_E) (b : ty_B) (x : ty_X) (d : ty_D) : Prop := wX_findLeaders_22 post (fun y0 a_ops a_numbers a_stack a_returns a_words a_inputs a_outs a_blockAt a_leads a_blockCost a_blockNeed a_blockPeak a_microFrom a_finalFrom a_blockNext a_blockTest a_blockTarget a_microOp a_microTarget a_microA a_microB a_microUsed a_finalOperand a_constant a_newStack a_wordOperand a_oldValues a_tempValues a_disk a_roots a_table a_newTable a_placeUsed a_state => J2 y0 (gc_size c, gm_status m, gm_at m, gm_stackSize m, gm_returnSize m, gm_inputSize m, gm_outputSize m, gb_blocks b, gx_micros x, gb_finals b, gx_constants x, gx_newSize x, gx_taken x, gx_peak x, gx_temps x, gd_root d, gm_changedPages m, gd_writesLeft d, gd_broken d, a_ops, a_numbers, a_stack, a_returns, a_words, a_inputs, a_outs, a_blockAt, a_leads, a_blockCost, a_blockNeed, a_blockPeak, a_microFrom, a_finalFrom, a_blockNext, a_blockTest, a_blockTarget, a_microOp, a_microTarget, a_microA, a_microB, a_microUsed, a_finalOperand, a_constant, a_newStack, a_wordOperand, a_oldValues, a_tempValues, a_disk, a_roots, a_table, a_newTable, a_placeUsed, a_state)) x1 z0 z1 (gc_size c) (gm_status m) (gm_at m) (gm_stackSize m) (gm_returnSize m) (gm_inputSize m) (gm_outputSize m) (gb_blocks b) (gx_micros x) (gb_finals b) (gx_constants x) (gx_newSize x) (gx_taken x) (gx_peak x) (gx_temps x) (gd_root d) (gm_changedPages m) (gd_writesLeft d) (gd_broken d) (gc_ops c) (gc_numbers c) (gm_stack m) (gm_returns m) (gm_words m) (gm_inputs m) (gm_outs m) (gb_blockAt b) (gb_leads b) (gb_blockCost b) (gb_blockNeed b) (gb_blockPeak b) (gb_microFrom b) (gb_finalFrom b) (gb_blockNext b) (gb_blockTest b) (gb_blockTarget b) (gx_microOp x) (gx_microTarget x) (gx_microA x) (gx_microB x) (gb_microUsed b) (gb_finalOperand b) (gx_constant x) (gx_newStack x) (gx_wordOperand x) (ge_oldValues e) (ge_tempValues e) (gd_disk d) (gd_roots d) (gd_table d) (gd_newTable d) (gd_placeUsed d) (gd_state d)
def lo_findLeaders_2 (post : SX → Prop) (n : Nat) (x1 : Int32) (c : ty_C) (m : ty_M) (e : ty_E) (b : ty_B) (x : ty_X) (d : ty_D) : Prop := wX_findLeaders_2 post (gc_size c) (gm_status m) (gm_at m) (gm_stackSize m) (gm_returnSize m) (gm_inputSize m) (gm_outputSize m) (gb_blocks b) (gx_micros x) (gb_finals b) (gx_constants x) (gx_newSize x) (gx_taken x) (gx_peak x) (gx_temps x) (gd_root d) (gm_changedPages m) (gd_writesLeft d) (gd_broken d) n x1 (gc_ops c) (gc_numbers c) (gm_stack m) (gm_returns m) (gm_words m) (gm_inputs m) (gm_outs m) (gb_blockAt b) (gb_leads b) (gb_blockCost b) (gb_blockNeed b) (gb_blockPeak b) (gb_microFrom b) (gb_finalFrom b) (gb_blockNext b) (gb_blockTest b) (gb_blockTarget b) (gx_microOp x) (gx_microTarget x) (gx_microA x) (gx_microB x) (gb_microUsed b) (gb_finalOperand b) (gx_constant x) (gx_newStack x) (gx_wordOperand x) (ge_oldValues e) (ge_tempValues e) (gd_disk d) (gd_roots d) (gd_table d) (gd_newTable d) (gd_placeUsed d) (gd_state d)
def lo_constantFor_2 (post : Int32 → SX → Prop) (x1 : Int32) (n : Nat) (x2 : Int32) (c : ty_C) (m : ty_M) (e : ty_E) (b : ty_B) (x : ty_X) (d : ty_D) : Prop := wX_constantFor_2 post x1 (gc_size c) (gm_status m) (gm_at m) (gm_stackSize m) (gm_returnSize m) (gm_inputSize m) (gm_outputSize m) (gb_blocks b) (gx_micros x) (gb_finals b) (gx_constants x) (gx_newSize x) (gx_taken x) (gx_peak x) (gx_temps x) (gd_root d) (gm_changedPages m) (gd_writesLeft d) (gd_broken d) (gc_ops c) (gc_numbers c) (gm_stack m) (gm_returns m) (gm_words m) (gm_inputs m) (gm_outs m) (gb_blockAt b) (gb_leads b) (gb_blockCost b) (gb_blockNeed b) (gb_blockPeak b) (gb_microFrom b) (gb_finalFrom b) (gb_blockNext b) (gb_blockTest b) (gb_blockTarget b) (gx_microOp x) (gx_microTarget x) (gx_microA x) (gx_microB x) (gb_microUsed b) (gb_finalOperand b) (gx_constant x) (gx_newStack x) (gx_wordOperand x) (ge_oldValues e) (ge_tempValues e) (gd_disk d) (gd_roots d) (gd_table d) (gd_newTable d) (gd_placeUsed d) (gd_state d) n x2
def lo_translateGet_46 (post : SX → Prop) (x1 : Int32) (c : ty_C) (m : ty_M) (e : ty_E) (b : ty_B) (x : ty_X) (d : ty_D) : Prop := wX_translateGet_46 post x1 (gc_size c) (gm_status m) (gm_at m) (gm_stackSize m) (gm_returnSize m) (gm_inputSize m) (gm_outputSize m) (gb_blocks b) (gx_micros x) (gb_finals b) (gx_constants x) (gx_newSize x) (gx_taken x) (gx_peak x) (gx_temps x) (gd_root d) (gm_changedPages m) (gd_writesLeft d) (gd_broken d) (gc_ops c) (gc_numbers c) (gm_stack m) (gm_returns m) (gm_words m) (gm_inputs m) (gm_outs m) (gb_blockAt b) (gb_leads b) (gb_blockCost b) (gb_blockNeed b) (gb_blockPeak b) (gb_microFrom b) (gb_finalFrom b) (gb_blockNext b) (gb_blockTest b) (gb_blockTarget b) (gx_microOp x) (gx_microTarget x) (gx_microA x) (gx_microB x) (gb_microUsed b) (gb_finalOperand b) (gx_constant x) (gx_newStack x) (gx_wordOperand x) (ge_oldValues e) (ge_tempValues e) (gd_disk d) (gd_roots d) (gd_table d) (gd_newTable d) (gd_placeUsed d) (gd_state d)
def lo_simplified_162 (post : Int32 → SX → Prop) (c : ty_C) (m : ty_M) (e : ty_E) (b : ty_B) (x : ty_X) (d : ty_D) : Prop := wX_simplified_162 post (gc_size c) (gm_status m) (gm_at m) (gm_stackSize m) (gm_returnSize m) (gm_inputSize m) (gm_outputSize m) (gb_blocks b) (gx_micros x) (gb_finals b) (gx_constants x) (gx_newSize x) (gx_taken x) (gx_peak x) (gx_temps x) (gd_root d) (gm_changedPages m) (gd_writesLeft d) (gd_broken d) (gc_ops c) (gc_numbers c) (gm_stack m) (gm_returns m) (gm_words m) (gm_inputs m) (gm_outs m) (gb_blockAt b) (gb_leads b) (gb_blockCost b) (gb_blockNeed b) (gb_blockPeak b) (gb_microFrom b) (gb_finalFrom b) (gb_blockNext b) (gb_blockTest b) (gb_blockTarget b) (gx_microOp x) (gx_microTarget x) (gx_microA x) (gx_microB x) (gb_microUsed b) (gb_finalOperand b) (gx_constant x) (gx_newStack x) (gx_wordOperand x) (ge_oldValues e) (ge_tempValues e) (gd_disk d) (gd_roots d) (gd_table d) (gd_newTable d) (gd_placeUsed d) (gd_state d)
def lo_simplified_168 (post : Int32 → SX → Prop) (x1 : Int32) (x2 : Int32) (x3 : Int32) (c : ty_C) (m : ty_M) (e : ty_E) (b : ty_B) (x : ty_X) (d : ty_D) : Prop := wX_simplified_168 post x1 x2 x3 (gc_size c) (gm_status m) (gm_at m) (gm_stackSize m) (gm_returnSize m) (gm_inputSize m) (gm_outputSize m) (gb_blocks b) (gx_micros x) (gb_finals b) (gx_constants x) (gx_newSize x) (gx_taken x) (gx_peak x) (gx_temps x) (gd_root d) (gm_changedPages m) (gd_writesLeft d) (gd_broken d) (gc_ops c) (gc_numbers c) (gm_stack m) (gm_returns m) (gm_words m) (gm_inputs m) (gm_outs m) (gb_blockAt b) (gb_leads b) (gb_blockCost b) (gb_blockNeed b) (gb_blockPeak b) (gb_microFrom b) (gb_finalFrom b) (gb_blockNext b) (gb_blockTest b) (gb_blockTarget b) (gx_microOp x) (gx_microTarget x) (gx_microA x) (gx_microB x) (gb_microUsed b) (gb_finalOperand b) (gx_constant x) (gx_newStack x) (gx_wordOperand x) (ge_oldValues e) (ge_tempValues e) (gd_disk d) (gd_roots d) (gd_table d) (gd_newTable d) (gd_placeUsed d) (gd_state d)
def lo_simplified_138 (post : Int32 → SX → Prop) (x1 : Int32) (x2 : Int32) (x3 : Int32) (z0 : Int32) (c : ty_C) (m : ty_M) (e : ty_E) (b : ty_B) (x : ty_X) (d : ty_D) : Prop := wX_simplified_138 post x1 x2 x3 z0 (gc_size c) (gm_status m) (gm_at m) (gm_stackSize m) (gm_returnSize m) (gm_inputSize m) (gm_outputSize m) (gb_blocks b) (gx_micros x) (gb_finals b) (gx_constants x) (gx_newSize x) (gx_taken x) (gx_peak x) (gx_temps x) (gd_root d) (gm_changedPages m) (gd_writesLeft d) (gd_broken d) (gc_ops c) (gc_numbers c) (gm_stack m) (gm_returns m) (gm_words m) (gm_inputs m) (gm_outs m) (gb_blockAt b) (gb_leads b) (gb_blockCost b) (gb_blockNeed b) (gb_blockPeak b) (gb_microFrom b) (gb_finalFrom b) (gb_blockNext b) (gb_blockTest b) (gb_blockTarget b) (gx_microOp x) (gx_microTarget x) (gx_microA x) (gx_microB x) (gb_microUsed b) (gb_finalOperand b) (gx_constant x) (gx_newStack x) (gx_wordOperand x) (ge_oldValues e) (ge_tempValues e) (gd_disk d) (gd_roots d) (gd_table d) (gd_newTable d) (gd_placeUsed d) (gd_state d)
def lo_simplified_137 (post : Int32 → SX → Prop) (x1 : Int32) (x2 : Int32) (x3 : Int32) (c : ty_C) (m : ty_M) (e : ty_E) (b : ty_B) (x : ty_X) (d : ty_D) : Prop := wX_simplified_137 post x1 x2 x3 (gc_size c) (gm_status m) (gm_at m) (gm_stackSize m) (gm_returnSize m) (gm_inputSize m) (gm_outputSize m) (gb_blocks b) (gx_micros x) (gb_finals b) (gx_constants x) (gx_newSize x) (gx_taken x) (gx_peak x) (gx_temps x) (gd_root d) (gm_changedPages m) (gd_writesLeft d) (gd_broken d) (gc_ops c) (gc_numbers c) (gm_stack m) (gm_returns m) (gm_words m) (gm_inputs m) (gm_outs m) (gb_blockAt b) (gb_leads b) (gb_blockCost b) (gb_blockNeed b) (gb_blockPeak b) (gb_microFrom b) (gb_finalFrom b) (gb_blockNext b) (gb_blockTest b) (gb_blockTarget b) (gx_microOp x) (gx_microTarget x) (gx_microA x) (gx_microB x) (gb_microUsed b) (gb_finalOperand b) (gx_constant x) (gx_newStack x) (gx_wordOperand x) (ge_oldValues e) (ge_tempValues e) (gd_disk d) (gd_roots d) (gd_table d) (gd_newTable d) (gd_placeUsed d) (gd_state d)
def lo_simplified_133 (post : Int32 → SX → Prop) (x1 : Int32) (x2 : Int32) (x3 : Int32) (c : ty_C) (m : ty_M) (e : ty_E) (b : ty_B) (x : ty_X) (d : ty_D) : Prop := wX_simplified_133 post x1 x2 x3 (gc_size c) (gm_status m) (gm_at m) (gm_stackSize m) (gm_returnSize m) (gm_inputSize m) (gm_outputSize m) (gb_blocks b) (gx_micros x) (gb_finals b) (gx_constants x) (gx_newSize x) (gx_taken x) (gx_peak x) (gx_temps x) (gd_root d) (gm_changedPages m) (gd_writesLeft d) (gd_broken d) (gc_ops c) (gc_numbers c) (gm_stack m) (gm_returns m) (gm_words m) (gm_inputs m) (gm_outs m) (gb_blockAt b) (gb_leads b) (gb_blockCost b) (gb_blockNeed b) (gb_blockPeak b) (gb_microFrom b) (gb_finalFrom b) (gb_blockNext b) (gb_blockTest b) (gb_blockTarget b) (gx_microOp x) (gx_microTarget x) (gx_microA x) (gx_microB x) (gb_microUsed b) (gb_finalOperand b) (gx_constant x) (gx_newStack x) (gx_wordOperand x) (ge_oldValues e) (ge_tempValues e) (gd_disk d) (gd_roots d) (gd_table d) (gd_newTable d) (gd_placeUsed d) (gd_state d)
def lo_simplified_109 (post : Int32 → SX → Prop) (x1 : Int32) (x2 : Int32) (x3 : Int32) (c : ty_C) (m : ty_M) (e : ty_E) (b : ty_B) (x : ty_X) (d : ty_D) : Prop := wX_simplified_109 post x1 x2 x3 (gc_size c) (gm_status m) (gm_at m) (gm_stackSize m) (gm_returnSize m) (gm_inputSize m) (gm_outputSize m) (gb_blocks b) (gx_micros x) (gb_finals b) (gx_constants x) (gx_newSize x) (gx_taken x) (gx_peak x) (gx_temps x) (gd_root d) (gm_changedPages m) (gd_writesLeft d) (gd_broken d) (gc_ops c) (gc_numbers c) (gm_stack m) (gm_returns m) (gm_words m) (gm_inputs m) (gm_outs m) (gb_blockAt b) (gb_leads b) (gb_blockCost b) (gb_blockNeed b) (gb_blockPeak b) (gb_microFrom b) (gb_finalFrom b) (gb_blockNext b) (gb_blockTest b) (gb_blockTarget b) (gx_microOp x) (gx_microTarget x) (gx_microA x) (gx_microB x) (gb_microUsed b) (gb_finalOperand b) (gx_constant x) (gx_newStack x) (gx_wordOperand x) (ge_oldValues e) (ge_tempValues e) (gd_disk d) (gd_roots d) (gd_table d) (gd_newTable d) (gd_placeUsed d) (gd_state d)
def lo_simplified_92 (post : Int32 → SX → Prop) (x1 : Int32) (x2 : Int32) (x3 : Int32) (c : ty_C) (m : ty_M) (e : ty_E) (b : ty_B) (x : ty_X) (d : ty_D) : Prop := wX_simplified_92 post x1 x2 x3 (gc_size c) (gm_status m) (gm_at m) (gm_stackSize m) (gm_returnSize m) (gm_inputSize m) (gm_outputSize m) (gb_blocks b) (gx_micros x) (gb_finals b) (gx_constants x) (gx_newSize x) (gx_taken x) (gx_peak x) (gx_temps x) (gd_root d) (gm_changedPages m) (gd_writesLeft d) (gd_broken d) (gc_ops c) (gc_numbers c) (gm_stack m) (gm_returns m) (gm_words m) (gm_inputs m) (gm_outs m) (gb_blockAt b) (gb_leads b) (gb_blockCost b) (gb_blockNeed b) (gb_blockPeak b) (gb_microFrom b) (gb_finalFrom b) (gb_blockNext b) (gb_blockTest b) (gb_blockTarget b) (gx_microOp x) (gx_microTarget x) (gx_microA x) (gx_microB x) (gb_microUsed b) (gb_finalOperand b) (gx_constant x) (gx_newStack x) (gx_wordOperand x) (ge_oldValues e) (ge_tempValues e) (gd_disk d) (gd_roots d) (gd_table d) (gd_newTable d) (gd_placeUsed d) (gd_state d)
def lo_simplified_78 (post : Int32 → SX → Prop) (x1 : Int32) (x2 : Int32) (x3 : Int32) (c : ty_C) (m : ty_M) (e : ty_E) (b : ty_B) (x : ty_X) (d : ty_D) : Prop := wX_simplified_78 post x1 x2 x3 (gc_size c) (gm_status m) (gm_at m) (gm_stackSize m) (gm_returnSize m) (gm_inputSize m) (gm_outputSize m) (gb_blocks b) (gx_micros x) (gb_finals b) (gx_constants x) (gx_newSize x) (gx_taken x) (gx_peak x) (gx_temps x) (gd_root d) (gm_changedPages m) (gd_writesLeft d) (gd_broken d) (gc_ops c) (gc_numbers c) (gm_stack m) (gm_returns m) (gm_words m) (gm_inputs m) (gm_outs m) (gb_blockAt b) (gb_leads b) (gb_blockCost b) (gb_blockNeed b) (gb_blockPeak b) (gb_microFrom b) (gb_finalFrom b) (gb_blockNext b) (gb_blockTest b) (gb_blockTarget b) (gx_microOp x) (gx_microTarget x) (gx_microA x) (gx_microB x) (gb_microUsed b) (gb_finalOperand b) (gx_constant x) (gx_newStack x) (gx_wordOperand x) (ge_oldValues e) (ge_tempValues e) (gd_disk d) (gd_roots d) (gd_table d) (gd_newTable d) (gd_placeUsed d) (gd_state d)
def lo_simplified_61 (post : Int32 → SX → Prop) (x1 : Int32) (x2 : Int32) (x3 : Int32) (c : ty_C) (m : ty_M) (e : ty_E) (b : ty_B) (x : ty_X) (d : ty_D) : Prop := wX_simplified_61 post x1 x2 x3 (gc_size c) (gm_status m) (gm_at m) (gm_stackSize m) (gm_returnSize m) (gm_inputSize m) (gm_outputSize m) (gb_blocks b) (gx_micros x) (gb_finals b) (gx_constants x) (gx_newSize x) (gx_taken x) (gx_peak x) (gx_temps x) (gd_root d) (gm_changedPages m) (gd_writesLeft d) (gd_broken d) (gc_ops c) (gc_numbers c) (gm_stack m) (gm_returns m) (gm_words m) (gm_inputs m) (gm_outs m) (gb_blockAt b) (gb_leads b) (gb_blockCost b) (gb_blockNeed b) (gb_blockPeak b) (gb_microFrom b) (gb_finalFrom b) (gb_blockNext b) (gb_blockTest b) (gb_blockTarget b) (gx_microOp x) (gx_microTarget x) (gx_microA x) (gx_microB x) (gb_microUsed b) (gb_finalOperand b) (gx_constant x) (gx_newStack x) (gx_wordOperand x) (ge_oldValues e) (ge_tempValues e) (gd_disk d) (gd_roots d) (gd_table d) (gd_newTable d) (gd_placeUsed d) (gd_state d)
def lo_simplified_41 (post : Int32 → SX → Prop) (x1 : Int32) (x2 : Int32) (x3 : Int32) (c : ty_C) (m : ty_M) (e : ty_E) (b : ty_B) (x : ty_X) (d : ty_D) : Prop := wX_simplified_41 post x1 x2 x3 (gc_size c) (gm_status m) (gm_at m) (gm_stackSize m) (gm_returnSize m) (gm_inputSize m) (gm_outputSize m) (gb_blocks b) (gx_micros x) (gb_finals b) (gx_constants x) (gx_newSize x) (gx_taken x) (gx_peak x) (gx_temps x) (gd_root d) (gm_changedPages m) (gd_writesLeft d) (gd_broken d) (gc_ops c) (gc_numbers c) (gm_stack m) (gm_returns m) (gm_words m) (gm_inputs m) (gm_outs m) (gb_blockAt b) (gb_leads b) (gb_blockCost b) (gb_blockNeed b) (gb_blockPeak b) (gb_microFrom b) (gb_finalFrom b) (gb_blockNext b) (gb_blockTest b) (gb_blockTarget b) (gx_microOp x) (gx_microTarget x) (gx_microA x) (gx_microB x) (gb_microUsed b) (gb_finalOperand b) (gx_constant x) (gx_newStack x) (gx_wordOperand x) (ge_oldValues e) (ge_tempValues e) (gd_disk d) (gd_roots d) (gd_table d) (gd_newTable d) (gd_placeUsed d) (gd_state d)
def lo_sameBefore_93 (post : Int32 → Prop) (J11 : Int32 → Prop) (x1 : Int32) (x2 : Int32) (x3 : Int32) (x4 : Int32) (x5 : Int32) (z0 : Int32) (c : ty_C) (m : ty_M) (e : ty_E) (b : ty_B) (x : ty_X) (d : ty_D) : Prop := wX_sameBefore_93 post J11 x1 x2 x3 x4 x5 z0 (gc_size c) (gm_status m) (gm_at m) (gm_stackSize m) (gm_returnSize m) (gm_inputSize m) (gm_outputSize m) (gb_blocks b) (gx_micros x) (gb_finals b) (gx_constants x) (gx_newSize x) (gx_taken x) (gx_peak x) (gx_temps x) (gd_root d) (gm_changedPages m) (gd_writesLeft d) (gd_broken d) (gc_ops c) (gc_numbers c) (gm_stack m) (gm_returns m) (gm_words m) (gm_inputs m) (gm_outs m) (gb_blockAt b) (gb_leads b) (gb_blockCost b) (gb_blockNeed b) (gb_blockPeak b) (gb_microFrom b) (gb_finalFrom b) (gb_blockNext b) (gb_blockTest b) (gb_blockTarget b) (gx_microOp x) (gx_microTarget x) (gx_microA x) (gx_microB x) (gb_microUsed b) (gb_finalOperand b) (gx_constant x) (gx_newStack x) (gx_wordOperand x) (ge_oldValues e) (ge_tempValues e) (gd_disk d) (gd_roots d) (gd_table d) (gd_newTable d) (gd_placeUsed d) (gd_state d)
def lo_sameBefore_92 (post : Int32 → Prop) (J11 : Int32 → Prop) (x1 : Int32) (x2 : Int32) (x3 : Int32) (x4 : Int32) (x5 : Int32) (c : ty_C) (m : ty_M) (e : ty_E) (b : ty_B) (x : ty_X) (d : ty_D) : Prop := wX_sameBefore_92 post J11 x1 x2 x3 x4 x5 (gc_size c) (gm_status m) (gm_at m) (gm_stackSize m) (gm_returnSize m) (gm_inputSize m) (gm_outputSize m) (gb_blocks b) (gx_micros x) (gb_finals b) (gx_constants x) (gx_newSize x) (gx_taken x) (gx_peak x) (gx_temps x) (gd_root d) (gm_changedPages m) (gd_writesLeft d) (gd_broken d) (gc_ops c) (gc_numbers c) (gm_stack m) (gm_returns m) (gm_words m) (gm_inputs m) (gm_outs m) (gb_blockAt b) (gb_leads b) (gb_blockCost b) (gb_blockNeed b) (gb_blockPeak b) (gb_microFrom b) (gb_finalFrom b) (gb_blockNext b) (gb_blockTest b) (gb_blockTarget b) (gx_microOp x) (gx_microTarget x) (gx_microA x) (gx_microB x) (gb_microUsed b) (gb_finalOperand b) (gx_constant x) (gx_newStack x) (gx_wordOperand x) (ge_oldValues e) (ge_tempValues e) (gd_disk d) (gd_roots d) (gd_table d) (gd_newTable d) (gd_placeUsed d) (gd_state d)
def lo_sameBefore_66 (post : Int32 → Prop) (J11 : Int32 → Prop) (x1 : Int32) (x2 : Int32) (x3 : Int32) (x4 : Int32) (x5 : Int32) (c : ty_C) (m : ty_M) (e : ty_E) (b : ty_B) (x : ty_X) (d : ty_D) : Prop := wX_sameBefore_66 post J11 x1 x2 x3 x4 x5 (gc_size c) (gm_status m) (gm_at m) (gm_stackSize m) (gm_returnSize m) (gm_inputSize m) (gm_outputSize m) (gb_blocks b) (gx_micros x) (gb_finals b) (gx_constants x) (gx_newSize x) (gx_taken x) (gx_peak x) (gx_temps x) (gd_root d) (gm_changedPages m) (gd_writesLeft d) (gd_broken d) (gc_ops c) (gc_numbers c) (gm_stack m) (gm_returns m) (gm_words m) (gm_inputs m) (gm_outs m) (gb_blockAt b) (gb_leads b) (gb_blockCost b) (gb_blockNeed b) (gb_blockPeak b) (gb_microFrom b) (gb_finalFrom b) (gb_blockNext b) (gb_blockTest b) (gb_blockTarget b) (gx_microOp x) (gx_microTarget x) (gx_microA x) (gx_microB x) (gb_microUsed b) (gb_finalOperand b) (gx_constant x) (gx_newStack x) (gx_wordOperand x) (ge_oldValues e) (ge_tempValues e) (gd_disk d) (gd_roots d) (gd_table d) (gd_newTable d) (gd_placeUsed d) (gd_state d)
def lo_sameBefore_47 (post : Int32 → Prop) (J11 : Int32 → Prop) (x1 : Int32) (x2 : Int32) (x3 : Int32) (x4 : Int32) (z0 : Int32) (c : ty_C) (m : ty_M) (e : ty_E) (b : ty_B) (x : ty_X) (d : ty_D) : Prop := wX_sameBefore_47 post J11 x1 x2 x3 x4 z0 (gc_size c) (gm_status m) (gm_at m) (gm_stackSize m) (gm_returnSize m) (gm_inputSize m) (gm_outputSize m) (gb_blocks b) (gx_micros x) (gb_finals b) (gx_constants x) (gx_newSize x) (gx_taken x) (gx_peak x) (gx_temps x) (gd_root d) (gm_changedPages m) (gd_writesLeft d) (gd_broken d) (gc_ops c) (gc_numbers c) (gm_stack m) (gm_returns m) (gm_words m) (gm_inputs m) (gm_outs m) (gb_blockAt b) (gb_leads b) (gb_blockCost b) (gb_blockNeed b) (gb_blockPeak b) (gb_microFrom b) (gb_finalFrom b) (gb_blockNext b) (gb_blockTest b) (gb_blockTarget b) (gx_microOp x) (gx_microTarget x) (gx_microA x) (gx_microB x) (gb_microUsed b) (gb_finalOperand b) (gx_constant x) (gx_newStack x) (gx_wordOperand x) (ge_oldValues e) (ge_tempValues e) (gd_disk d) (gd_roots d) (gd_table d) (gd_newTable d) (gd_placeUsed d) (gd_state d)
def lo_sameBefore_46 (post : Int32 → Prop) (J11 : Int32 → Prop) (x1 : Int32) (x2 : Int32) (x3 : Int32) (x4 : Int32) (c : ty_C) (m : ty_M) (e : ty_E) (b : ty_B) (x : ty_X) (d : ty_D) : Prop := wX_sameBefore_46 post J11 x1 x2 x3 x4 (gc_size c) (gm_status m) (gm_at m) (gm_stackSize m) (gm_returnSize m) (gm_inputSize m) (gm_outputSize m) (gb_blocks b) (gx_micros x) (gb_finals b) (gx_constants x) (gx_newSize x) (gx_taken x) (gx_peak x) (gx_temps x) (gd_root d) (gm_changedPages m) (gd_writesLeft d) (gd_broken d) (gc_ops c) (gc_numbers c) (gm_stack m) (gm_returns m) (gm_words m) (gm_inputs m) (gm_outs m) (gb_blockAt b) (gb_leads b) (gb_blockCost b) (gb_blockNeed b) (gb_blockPeak b) (gb_microFrom b) (gb_finalFrom b) (gb_blockNext b) (gb_blockTest b) (gb_blockTarget b) (gx_microOp x) (gx_microTarget x) (gx_microA x) (gx_microB x) (gb_microUsed b) (gb_finalOperand b) (gx_constant x) (gx_newStack x) (gx_wordOperand x) (ge_oldValues e) (ge_tempValues e) (gd_disk d) (gd_roots d) (gd_table d) (gd_newTable d) (gd_placeUsed d) (gd_state d)
def lo_sameBefore_11 (post : Int32 → Prop) (x1 : Int32) (x2 : Int32) (x3 : Int32) (n : Nat) (x4 : Int32) (c : ty_C) (m : ty_M) (e : ty_E) (b : ty_B) (x : ty_X) (d : ty_D) : Prop := wX_sameBefore_11 post x1 x2 x3 (gc_size c) (gm_status m) (gm_at m) (gm_stackSize m) (gm_returnSize m) (gm_inputSize m) (gm_outputSize m) (gb_blocks b) (gx_micros x) (gb_finals b) (gx_constants x) (gx_newSize x) (gx_taken x) (gx_peak x) (gx_temps x) (gd_root d) (gm_changedPages m) (gd_writesLeft d) (gd_broken d) (gc_ops c) (gc_numbers c) (gm_stack m) (gm_returns m) (gm_words m) (gm_inputs m) (gm_outs m) (gb_blockAt b) (gb_leads b) (gb_blockCost b) (gb_blockNeed b) (gb_blockPeak b) (gb_microFrom b) (gb_finalFrom b) (gb_blockNext b) (gb_blockTest b) (gb_blockTarget b) (gx_microOp x) (gx_microTarget x) (gx_microA x) (gx_microB x) (gb_microUsed b) (gb_finalOperand b) (gx_constant x) (gx_newStack x) (gx_wordOperand x) (ge_oldValues e) (ge_tempValues e) (gd_disk d) (gd_roots d) (gd_table d) (gd_newTable d) (gd_placeUsed d) (gd_state d) n x4
def lo_translateSum_35 (post : SX → Prop) (x1 : Int32) (x2 : Int32) (z0 : Int32) (c : ty_C) (m : ty_M) (e : ty_E) (b : ty_B) (x : ty_X) (d : ty_D) : Prop := wX_translateSum_35 post x1 x2 z0 (gc_size c) (gm_status m) (gm_at m) (gm_stackSize m) (gm_returnSize m) (gm_inputSize m) (gm_outputSize m) (gb_blocks b) (gx_micros x) (gb_finals b) (gx_constants x) (gx_newSize x) (gx_taken x) (gx_peak x) (gx_temps x) (gd_root d) (gm_changedPages m) (gd_writesLeft d) (gd_broken d) (gc_ops c) (gc_numbers c) (gm_stack m) (gm_returns m) (gm_words m) (gm_inputs m) (gm_outs m) (gb_blockAt b) (gb_leads b) (gb_blockCost b) (gb_blockNeed b) (gb_blockPeak b) (gb_microFrom b) (gb_finalFrom b) (gb_blockNext b) (gb_blockTest b) (gb_blockTarget b) (gx_microOp x) (gx_microTarget x) (gx_microA x) (gx_microB x) (gb_microUsed b) (gb_finalOperand b) (gx_constant x) (gx_newStack x) (gx_wordOperand x) (ge_oldValues e) (ge_tempValues e) (gd_disk d) (gd_roots d) (gd_table d) (gd_newTable d) (gd_placeUsed d) (gd_state d)
def lo_translateSum_22 (post : SX → Prop) (x1 : Int32) (x2 : Int32) (z0 : Int32) (c : ty_C) (m : ty_M) (e : ty_E) (b : ty_B) (x : ty_X) (d : ty_D) : Prop := wX_translateSum_22 post x1 x2 z0 (gc_size c) (gm_status m) (gm_at m) (gm_stackSize m) (gm_returnSize m) (gm_inputSize m) (gm_outputSize m) (gb_blocks b) (gx_micros x) (gb_finals b) (gx_constants x) (gx_newSize x) (gx_taken x) (gx_peak x) (gx_temps x) (gd_root d) (gm_changedPages m) (gd_writesLeft d) (gd_broken d) (gc_ops c) (gc_numbers c) (gm_stack m) (gm_returns m) (gm_words m) (gm_inputs m) (gm_outs m) (gb_blockAt b) (gb_leads b) (gb_blockCost b) (gb_blockNeed b) (gb_blockPeak b) (gb_microFrom b) (gb_finalFrom b) (gb_blockNext b) (gb_blockTest b) (gb_blockTarget b) (gx_microOp x) (gx_microTarget x) (gx_microA x) (gx_microB x) (gb_microUsed b) (gb_finalOperand b) (gx_constant x) (gx_newStack x) (gx_wordOperand x) (ge_oldValues e) (ge_tempValues e) (gd_disk d) (gd_roots d) (gd_table d) (gd_newTable d) (gd_placeUsed d) (gd_state d)
def lo_translateSum_17 (post : SX → Prop) (x1 : Int32) (x2 : Int32) (c : ty_C) (m : ty_M) (e : ty_E) (b : ty_B) (x : ty_X) (d : ty_D) : Prop := wX_translateSum_17 post x1 x2 (gc_size c) (gm_status m) (gm_at m) (gm_stackSize m) (gm_returnSize m) (gm_inputSize m) (gm_outputSize m) (gb_blocks b) (gx_micros x) (gb_finals b) (gx_constants x) (gx_newSize x) (gx_taken x) (gx_peak x) (gx_temps x) (gd_root d) (gm_changedPages m) (gd_writesLeft d) (gd_broken d) (gc_ops c) (gc_numbers c) (gm_stack m) (gm_returns m) (gm_words m) (gm_inputs m) (gm_outs m) (gb_blockAt b) (gb_leads b) (gb_blockCost b) (gb_blockNeed b) (gb_blockPeak b) (gb_microFrom b) (gb_finalFrom b) (gb_blockNext b) (gb_blockTest b) (gb_blockTarget b) (gx_microOp x) (gx_microTarget x) (gx_microA x) (gx_microB x) (gb_microUsed b) (gb_finalOperand b) (gx_constant x) (gx_newStack x) (gx_wordOperand x) (ge_oldValues e) (ge_tempValues e) (gd_disk d) (gd_roots d) (gd_table d) (gd_newTable d) (gd_placeUsed d) (gd_state d)
def lo_isOverwritten_4 (post : Int32 → Prop) (x1 : Int32) (n : Nat) (x2 : Int32) (c : ty_C) (m : ty_M) (e : ty_E) (b : ty_B) (x : ty_X) (d : ty_D) : Prop := wX_isOverwritten_4 post x1 (gc_size c) (gm_status m) (gm_at m) (gm_stackSize m) (gm_returnSize m) (gm_inputSize m) (gm_outputSize m) (gb_blocks b) (gx_micros x) (gb_finals b) (gx_constants x) (gx_newSize x) (gx_taken x) (gx_peak x) (gx_temps x) (gd_root d) (gm_changedPages m) (gd_writesLeft d) (gd_broken d) (gc_ops c) (gc_numbers c) (gm_stack m) (gm_returns m) (gm_words m) (gm_inputs m) (gm_outs m) (gb_blockAt b) (gb_leads b) (gb_blockCost b) (gb_blockNeed b) (gb_blockPeak b) (gb_microFrom b) (gb_finalFrom b) (gb_blockNext b) (gb_blockTest b) (gb_blockTarget b) (gx_microOp x) (gx_microTarget x) (gx_microA x) (gx_microB x) (gb_microUsed b) (gb_finalOperand b) (gx_constant x) (gx_newStack x) (gx_wordOperand x) (ge_oldValues e) (ge_tempValues e) (gd_disk d) (gd_roots d) (gd_table d) (gd_newTable d) (gd_placeUsed d) (gd_state d) n x2
def lo_markUsed_51 (post : SX → Prop) (J10 : Int32 → SX → Prop) (x1 : Int32) (x2 : Int32) (z0 : Int32) (c : ty_C) (m : ty_M) (e : ty_E) (b : ty_B) (x : ty_X) (d : ty_D) : Prop := wX_markUsed_51 post (fun y0 a_ops a_numbers a_stack a_returns a_words a_inputs a_outs a_blockAt a_leads a_blockCost a_blockNeed a_blockPeak a_microFrom a_finalFrom a_blockNext a_blockTest a_blockTarget a_microOp a_microTarget a_microA a_microB a_microUsed a_finalOperand a_constant a_newStack a_wordOperand a_oldValues a_tempValues a_disk a_roots a_table a_newTable a_placeUsed a_state => J10 y0 (gc_size c, gm_status m, gm_at m, gm_stackSize m, gm_returnSize m, gm_inputSize m, gm_outputSize m, gb_blocks b, gx_micros x, gb_finals b, gx_constants x, gx_newSize x, gx_taken x, gx_peak x, gx_temps x, gd_root d, gm_changedPages m, gd_writesLeft d, gd_broken d, a_ops, a_numbers, a_stack, a_returns, a_words, a_inputs, a_outs, a_blockAt, a_leads, a_blockCost, a_blockNeed, a_blockPeak, a_microFrom, a_finalFrom, a_blockNext, a_blockTest, a_blockTarget, a_microOp, a_microTarget, a_microA, a_microB, a_microUsed, a_finalOperand, a_constant, a_newStack, a_wordOperand, a_oldValues, a_tempValues, a_disk, a_roots, a_table, a_newTable, a_placeUsed, a_state)) x1 x2 z0 (gc_size c) (gm_status m) (gm_at m) (gm_stackSize m) (gm_returnSize m) (gm_inputSize m) (gm_outputSize m) (gb_blocks b) (gx_micros x) (gb_finals b) (gx_constants x) (gx_newSize x) (gx_taken x) (gx_peak x) (gx_temps x) (gd_root d) (gm_changedPages m) (gd_writesLeft d) (gd_broken d) (gc_ops c) (gc_numbers c) (gm_stack m) (gm_returns m) (gm_words m) (gm_inputs m) (gm_outs m) (gb_blockAt b) (gb_leads b) (gb_blockCost b) (gb_blockNeed b) (gb_blockPeak b) (gb_microFrom b) (gb_finalFrom b) (gb_blockNext b) (gb_blockTest b) (gb_blockTarget b) (gx_microOp x) (gx_microTarget x) (gx_microA x) (gx_microB x) (gb_microUsed b) (gb_finalOperand b) (gx_constant x) (gx_newStack x) (gx_wordOperand x) (ge_oldValues e) (ge_tempValues e) (gd_disk d) (gd_roots d) (gd_table d) (gd_newTable d) (gd_placeUsed d) (gd_state d)
def lo_markUsed_50 (post : SX → Prop) (J10 : Int32 → SX → Prop) (x1 : Int32) (x2 : Int32) (c : ty_C) (m : ty_M) (e : ty_E) (b : ty_B) (x : ty_X) (d : ty_D) : Prop := wX_markUsed_50 post (fun y0 a_ops a_numbers a_stack a_returns a_words a_inputs a_outs a_blockAt a_leads a_blockCost a_blockNeed a_blockPeak a_microFrom a_finalFrom a_blockNext a_blockTest a_blockTarget a_microOp a_microTarget a_microA a_microB a_microUsed a_finalOperand a_constant a_newStack a_wordOperand a_oldValues a_tempValues a_disk a_roots a_table a_newTable a_placeUsed a_state => J10 y0 (gc_size c, gm_status m, gm_at m, gm_stackSize m, gm_returnSize m, gm_inputSize m, gm_outputSize m, gb_blocks b, gx_micros x, gb_finals b, gx_constants x, gx_newSize x, gx_taken x, gx_peak x, gx_temps x, gd_root d, gm_changedPages m, gd_writesLeft d, gd_broken d, a_ops, a_numbers, a_stack, a_returns, a_words, a_inputs, a_outs, a_blockAt, a_leads, a_blockCost, a_blockNeed, a_blockPeak, a_microFrom, a_finalFrom, a_blockNext, a_blockTest, a_blockTarget, a_microOp, a_microTarget, a_microA, a_microB, a_microUsed, a_finalOperand, a_constant, a_newStack, a_wordOperand, a_oldValues, a_tempValues, a_disk, a_roots, a_table, a_newTable, a_placeUsed, a_state)) x1 x2 (gc_size c) (gm_status m) (gm_at m) (gm_stackSize m) (gm_returnSize m) (gm_inputSize m) (gm_outputSize m) (gb_blocks b) (gx_micros x) (gb_finals b) (gx_constants x) (gx_newSize x) (gx_taken x) (gx_peak x) (gx_temps x) (gd_root d) (gm_changedPages m) (gd_writesLeft d) (gd_broken d) (gc_ops c) (gc_numbers c) (gm_stack m) (gm_returns m) (gm_words m) (gm_inputs m) (gm_outs m) (gb_blockAt b) (gb_leads b) (gb_blockCost b) (gb_blockNeed b) (gb_blockPeak b) (gb_microFrom b) (gb_finalFrom b) (gb_blockNext b) (gb_blockTest b) (gb_blockTarget b) (gx_microOp x) (gx_microTarget x) (gx_microA x) (gx_microB x) (gb_microUsed b) (gb_finalOperand b) (gx_constant x) (gx_newStack x) (gx_wordOperand x) (ge_oldValues e) (ge_tempValues e) (gd_disk d) (gd_roots d) (gd_table d) (gd_newTable d) (gd_placeUsed d) (gd_state d)
def lo_markUsed_10 (post : SX → Prop) (x1 : Int32) (n : Nat) (x2 : Int32) (c : ty_C) (m : ty_M) (e : ty_E) (b : ty_B) (x : ty_X) (d : ty_D) : Prop := wX_markUsed_10 post x1 (gc_size c) (gm_status m) (gm_at m) (gm_stackSize m) (gm_returnSize m) (gm_inputSize m) (gm_outputSize m) (gb_blocks b) (gx_micros x) (gb_finals b) (gx_constants x) (gx_newSize x) (gx_taken x) (gx_peak x) (gx_temps x) (gd_root d) (gm_changedPages m) (gd_writesLeft d) (gd_broken d) n x2 (gc_ops c) (gc_numbers c) (gm_stack m) (gm_returns m) (gm_words m) (gm_inputs m) (gm_outs m) (gb_blockAt b) (gb_leads b) (gb_blockCost b) (gb_blockNeed b) (gb_blockPeak b) (gb_microFrom b) (gb_finalFrom b) (gb_blockNext b) (gb_blockTest b) (gb_blockTarget b) (gx_microOp x) (gx_microTarget x) (gx_microA x) (gx_microB x) (gb_microUsed b) (gb_finalOperand b) (gx_constant x) (gx_newStack x) (gx_wordOperand x) (ge_oldValues e) (ge_tempValues e) (gd_disk d) (gd_roots d) (gd_table d) (gd_newTable d) (gd_placeUsed d) (gd_state d)
def lo_dropUnused_168 (post : SX → Prop) (n : Nat) (x3 : Int32) (x4 : Int32) (c : ty_C) (m : ty_M) (e : ty_E) (b : ty_B) (x : ty_X) (d : ty_D) : Prop := wX_dropUnused_168 post (gc_size c) (gm_status m) (gm_at m) (gm_stackSize m) (gm_returnSize m) (gm_inputSize m) (gm_outputSize m) (gb_blocks b) (gx_micros x) (gb_finals b) (gx_constants x) (gx_newSize x) (gx_taken x) (gx_peak x) (gx_temps x) (gd_root d) (gm_changedPages m) (gd_writesLeft d) (gd_broken d) n x3 x4 (gc_ops c) (gc_numbers c) (gm_stack m) (gm_returns m) (gm_words m) (gm_inputs m) (gm_outs m) (gb_blockAt b) (gb_leads b) (gb_blockCost b) (gb_blockNeed b) (gb_blockPeak b) (gb_microFrom b) (gb_finalFrom b) (gb_blockNext b) (gb_blockTest b) (gb_blockTarget b) (gx_microOp x) (gx_microTarget x) (gx_microA x) (gx_microB x) (gb_microUsed b) (gb_finalOperand b) (gx_constant x) (gx_newStack x) (gx_wordOperand x) (ge_oldValues e) (ge_tempValues e) (gd_disk d) (gd_roots d) (gd_table d) (gd_newTable d) (gd_placeUsed d) (gd_state d)
def lo_dropUnused_101 (post : SX → Prop) (x2 : Int32) (n : Nat) (x3 : Int32) (c : ty_C) (m : ty_M) (e : ty_E) (b : ty_B) (x : ty_X) (d : ty_D) : Prop := wX_dropUnused_101 post x2 n x3 (gc_size c) (gm_status m) (gm_at m) (gm_stackSize m) (gm_returnSize m) (gm_inputSize m) (gm_outputSize m) (gb_blocks b) (gx_micros x) (gb_finals b) (gx_constants x) (gx_newSize x) (gx_taken x) (gx_peak x) (gx_temps x) (gd_root d) (gm_changedPages m) (gd_writesLeft d) (gd_broken d) (gc_ops c) (gc_numbers c) (gm_stack m) (gm_returns m) (gm_words m) (gm_inputs m) (gm_outs m) (gb_blockAt b) (gb_leads b) (gb_blockCost b) (gb_blockNeed b) (gb_blockPeak b) (gb_microFrom b) (gb_finalFrom b) (gb_blockNext b) (gb_blockTest b) (gb_blockTarget b) (gx_microOp x) (gx_microTarget x) (gx_microA x) (gx_microB x) (gb_microUsed b) (gb_finalOperand b) (gx_constant x) (gx_newStack x) (gx_wordOperand x) (ge_oldValues e) (ge_tempValues e) (gd_disk d) (gd_roots d) (gd_table d) (gd_newTable d) (gd_placeUsed d) (gd_state d)
def lo_dropUnused_70 (post : SX → Prop) (x2 : Int32) (n : Nat) (x3 : Int32) (c : ty_C) (m : ty_M) (e : ty_E) (b : ty_B) (x : ty_X) (d : ty_D) : Prop := wX_dropUnused_70 post x2 n x3 (gc_size c) (gm_status m) (gm_at m) (gm_stackSize m) (gm_returnSize m) (gm_inputSize m) (gm_outputSize m) (gb_blocks b) (gx_micros x) (gb_finals b) (gx_constants x) (gx_newSize x) (gx_taken x) (gx_peak x) (gx_temps x) (gd_root d) (gm_changedPages m) (gd_writesLeft d) (gd_broken d) (gc_ops c) (gc_numbers c) (gm_stack m) (gm_returns m) (gm_words m) (gm_inputs m) (gm_outs m) (gb_blockAt b) (gb_leads b) (gb_blockCost b) (gb_blockNeed b) (gb_blockPeak b) (gb_microFrom b) (gb_finalFrom b) (gb_blockNext b) (gb_blockTest b) (gb_blockTarget b) (gx_microOp x) (gx_microTarget x) (gx_microA x) (gx_microB x) (gb_microUsed b) (gb_finalOperand b) (gx_constant x) (gx_newStack x) (gx_wordOperand x) (ge_oldValues e) (ge_tempValues e) (gd_disk d) (gd_roots d) (gd_table d) (gd_newTable d) (gd_placeUsed d) (gd_state d)
def lo_dropUnused_9 (post : SX → Prop) (x1 : Int32) (x2 : Int32) (n : Nat) (x3 : Int32) (c : ty_C) (m : ty_M) (e : ty_E) (b : ty_B) (x : ty_X) (d : ty_D) : Prop := wX_dropUnused_9 post x1 x2 (gc_size c) (gm_status m) (gm_at m) (gm_stackSize m) (gm_returnSize m) (gm_inputSize m) (gm_outputSize m) (gb_blocks b) (gx_micros x) (gb_finals b) (gx_constants x) (gx_newSize x) (gx_taken x) (gx_peak x) (gx_temps x) (gd_root d) (gm_changedPages m) (gd_writesLeft d) (gd_broken d) n x3 (gc_ops c) (gc_numbers c) (gm_stack m) (gm_returns m) (gm_words m) (gm_inputs m) (gm_outs m) (gb_blockAt b) (gb_leads b) (gb_blockCost b) (gb_blockNeed b) (gb_blockPeak b) (gb_microFrom b) (gb_finalFrom b) (gb_blockNext b) (gb_blockTest b) (gb_blockTarget b) (gx_microOp x) (gx_microTarget x) (gx_microA x) (gx_microB x) (gb_microUsed b) (gb_finalOperand b) (gx_constant x) (gx_newStack x) (gx_wordOperand x) (ge_oldValues e) (ge_tempValues e) (gd_disk d) (gd_roots d) (gd_table d) (gd_newTable d) (gd_placeUsed d) (gd_state d)
def lo_translateBlock_313 (post : SX → Prop) (x2 : Int32) (n : Nat) (x6 : Int32) (c : ty_C) (m : ty_M) (e : ty_E) (b : ty_B) (x : ty_X) (d : ty_D) : Prop := wX_translateBlock_313 post x2 (gc_size c) (gm_status m) (gm_at m) (gm_stackSize m) (gm_returnSize m) (gm_inputSize m) (gm_outputSize m) (gb_blocks b) (gx_micros x) (gx_constants x) (gx_newSize x) (gx_taken x) (gx_peak x) (gx_temps x) (gd_root d) (gm_changedPages m) (gd_writesLeft d) (gd_broken d) n x6 (gb_finals b) (gc_ops c) (gc_numbers c) (gm_stack m) (gm_returns m) (gm_words m) (gm_inputs m) (gm_outs m) (gb_blockAt b) (gb_leads b) (gb_blockCost b) (gb_blockNeed b) (gb_blockPeak b) (gb_microFrom b) (gb_finalFrom b) (gb_blockNext b) (gb_blockTest b) (gb_blockTarget b) (gx_microOp x) (gx_microTarget x) (gx_microA x) (gx_microB x) (gb_microUsed b) (gb_finalOperand b) (gx_constant x) (gx_newStack x) (gx_wordOperand x) (ge_oldValues e) (ge_tempValues e) (gd_disk d) (gd_roots d) (gd_table d) (gd_newTable d) (gd_placeUsed d) (gd_state d)
def lo_translateBlock_278 (post : SX → Prop) (x1 : Int32) (x2 : Int32) (x3 : Int32) (c : ty_C) (m : ty_M) (e : ty_E) (b : ty_B) (x : ty_X) (d : ty_D) : Prop := wX_translateBlock_278 post x1 x2 x3 (gc_size c) (gm_status m) (gm_at m) (gm_stackSize m) (gm_returnSize m) (gm_inputSize m) (gm_outputSize m) (gb_blocks b) (gx_micros x) (gb_finals b) (gx_constants x) (gx_newSize x) (gx_taken x) (gx_peak x) (gx_temps x) (gd_root d) (gm_changedPages m) (gd_writesLeft d) (gd_broken d) (gc_ops c) (gc_numbers c) (gm_stack m) (gm_returns m) (gm_words m) (gm_inputs m) (gm_outs m) (gb_blockAt b) (gb_leads b) (gb_blockCost b) (gb_blockNeed b) (gb_blockPeak b) (gb_microFrom b) (gb_finalFrom b) (gb_blockNext b) (gb_blockTest b) (gb_blockTarget b) (gx_microOp x) (gx_microTarget x) (gx_microA x) (gx_microB x) (gb_microUsed b) (gb_finalOperand b) (gx_constant x) (gx_newStack x) (gx_wordOperand x) (ge_oldValues e) (ge_tempValues e) (gd_disk d) (gd_roots d) (gd_table d) (gd_newTable d) (gd_placeUsed d) (gd_state d)
def lo_translateBlock_225 (post : SX → Prop) (x1 : Int32) (x2 : Int32) (x3 : Int32) (x5 : Int32) (c : ty_C) (m : ty_M) (e : ty_E) (b : ty_B) (x : ty_X) (d : ty_D) : Prop := wX_translateBlock_225 post x1 x2 x3 x5 (gc_size c) (gm_status m) (gm_at m) (gm_stackSize m) (gm_returnSize m) (gm_inputSize m) (gm_outputSize m) (gb_blocks b) (gx_micros x) (gb_finals b) (gx_constants x) (gx_newSize x) (gx_taken x) (gx_peak x) (gx_temps x) (gd_root d) (gm_changedPages m) (gd_writesLeft d) (gd_broken d) (gc_ops c) (gc_numbers c) (gm_stack m) (gm_returns m) (gm_words m) (gm_inputs m) (gm_outs m) (gb_blockAt b) (gb_leads b) (gb_blockCost b) (gb_blockNeed b) (gb_blockPeak b) (gb_microFrom b) (gb_finalFrom b) (gb_blockNext b) (gb_blockTest b) (gb_blockTarget b) (gx_microOp x) (gx_microTarget x) (gx_microA x) (gx_microB x) (gb_microUsed b) (gb_finalOperand b) (gx_constant x) (gx_newStack x) (gx_wordOperand x) (ge_oldValues e) (ge_tempValues e) (gd_disk d) (gd_roots d) (gd_table d) (gd_newTable d) (gd_placeUsed d) (gd_state d)
def lo_translateBlock_188 (post : SX → Prop) (x1 : Int32) (x2 : Int32) (x3 : Int32) (z0 : Int32) (c : ty_C) (m : ty_M) (e : ty_E) (b : ty_B) (x : ty_X) (d : ty_D) : Prop := wX_translateBlock_188 post x1 x2 x3 z0 (gc_size c) (gm_status m) (gm_at m) (gm_stackSize m) (gm_returnSize m) (gm_inputSize m) (gm_outputSize m) (gb_blocks b) (gx_micros x) (gb_finals b) (gx_constants x) (gx_newSize x) (gx_taken x) (gx_peak x) (gx_temps x) (gd_root d) (gm_changedPages m) (gd_writesLeft d) (gd_broken d) (gc_ops c) (gc_numbers c) (gm_stack m) (gm_returns m) (gm_words m) (gm_inputs m) (gm_outs m) (gb_blockAt b) (gb_leads b) (gb_blockCost b) (gb_blockNeed b) (gb_blockPeak b) (gb_microFrom b) (gb_finalFrom b) (gb_blockNext b) (gb_blockTest b) (gb_blockTarget b) (gx_microOp x) (gx_microTarget x) (gx_microA x) (gx_microB x) (gb_microUsed b) (gb_finalOperand b) (gx_constant x) (gx_newStack x) (gx_wordOperand x) (ge_oldValues e) (ge_tempValues e) (gd_disk d) (gd_roots d) (gd_table d) (gd_newTable d) (gd_placeUsed d) (gd_state d)
def lo_translateBlock_187 (post : SX → Prop) (x1 : Int32) (x2 : Int32) (x3 : Int32) (c : ty_C) (m : ty_M) (e : ty_E) (b : ty_B) (x : ty_X) (d : ty_D) : Prop := wX_translateBlock_187 post x1 x2 x3 (gc_size c) (gm_status m) (gm_at m) (gm_stackSize m) (gm_returnSize m) (gm_inputSize m) (gm_outputSize m) (gb_blocks b) (gx_micros x) (gb_finals b) (gx_constants x) (gx_newSize x) (gx_taken x) (gx_peak x) (gx_temps x) (gd_root d) (gm_changedPages m) (gd_writesLeft d) (gd_broken d) (gc_ops c) (gc_numbers c) (gm_stack m) (gm_returns m) (gm_words m) (gm_inputs m) (gm_outs m) (gb_blockAt b) (gb_leads b) (gb_blockCost b) (gb_blockNeed b) (gb_blockPeak b) (gb_microFrom b) (gb_finalFrom b) (gb_blockNext b) (gb_blockTest b) (gb_blockTarget b) (gx_microOp x) (gx_microTarget x) (gx_microA x) (gx_microB x) (gb_microUsed b) (gb_finalOperand b) (gx_constant x) (gx_newStack x) (gx_wordOperand x) (ge_oldValues e) (ge_tempValues e) (gd_disk d) (gd_roots d) (gd_table d) (gd_newTable d) (gd_placeUsed d) (gd_state d)
def lo_translateBlock_183 (post : SX → Prop) (x1 : Int32) (x2 : Int32) (x3 : Int32) (c : ty_C) (m : ty_M) (e : ty_E) (b : ty_B) (x : ty_X) (d : ty_D) : Prop := wX_translateBlock_183 post x1 x2 x3 (gc_size c) (gm_status m) (gm_at m) (gm_stackSize m) (gm_returnSize m) (gm_inputSize m) (gm_outputSize m) (gb_blocks b) (gx_micros x) (gb_finals b) (gx_constants x) (gx_newSize x) (gx_taken x) (gx_peak x) (gx_temps x) (gd_root d) (gm_changedPages m) (gd_writesLeft d) (gd_broken d) (gc_ops c) (gc_numbers c) (gm_stack m) (gm_returns m) (gm_words m) (gm_inputs m) (gm_outs m) (gb_blockAt b) (gb_leads b) (gb_blockCost b) (gb_blockNeed b) (gb_blockPeak b) (gb_microFrom b) (gb_finalFrom b) (gb_blockNext b) (gb_blockTest b) (gb_blockTarget b) (gx_microOp x) (gx_microTarget x) (gx_microA x) (gx_microB x) (gb_microUsed b) (gb_finalOperand b) (gx_constant x) (gx_newStack x) (gx_wordOperand x) (ge_oldValues e) (ge_tempValues e) (gd_disk d) (gd_roots d) (gd_table d) (gd_newTable d) (gd_placeUsed d) (gd_state d)
def lo_translateBlock_153 (post : SX → Prop) (x1 : Int32) (x2 : Int32) (x3 : Int32) (c : ty_C) (m : ty_M) (e : ty_E) (b : ty_B) (x : ty_X) (d : ty_D) : Prop := wX_translateBlock_153 post x1 x2 x3 (gc_size c) (gm_status m) (gm_at m) (gm_stackSize m) (gm_returnSize m) (gm_inputSize m) (gm_outputSize m) (gb_blocks b) (gx_micros x) (gb_finals b) (gx_constants x) (gx_newSize x) (gx_taken x) (gx_peak x) (gx_temps x) (gd_root d) (gm_changedPages m) (gd_writesLeft d) (gd_broken d) (gc_ops c) (gc_numbers c) (gm_stack m) (gm_returns m) (gm_words m) (gm_inputs m) (gm_outs m) (gb_blockAt b) (gb_leads b) (gb_blockCost b) (gb_blockNeed b) (gb_blockPeak b) (gb_microFrom b) (gb_finalFrom b) (gb_blockNext b) (gb_blockTest b) (gb_blockTarget b) (gx_microOp x) (gx_microTarget x) (gx_microA x) (gx_microB x) (gb_microUsed b) (gb_finalOperand b) (gx_constant x) (gx_newStack x) (gx_wordOperand x) (ge_oldValues e) (ge_tempValues e) (gd_disk d) (gd_roots d) (gd_table d) (gd_newTable d) (gd_placeUsed d) (gd_state d)
def lo_translateBlock_128 (post : SX → Prop) (J80 : Int32 → Int32 → SX → Prop) (x1 : Int32) (x2 : Int32) (x3 : Int32) (x5 : Int32) (z0 : Int32) (c : ty_C) (m : ty_M) (e : ty_E) (b : ty_B) (x : ty_X) (d : ty_D) : Prop := wX_translateBlock_128 post (fun y0 y1 f_size f_status f_at f_stackSize f_returnSize f_inputSize f_outputSize f_blocks f_micros f_finals f_constants f_newSize f_taken f_peak f_temps f_root f_changedPages f_writesLeft f_broken a_ops a_numbers a_stack a_returns a_words a_inputs a_outs a_blockAt a_leads a_blockCost a_blockNeed a_blockPeak a_microFrom a_finalFrom a_blockNext a_blockTest a_blockTarget a_microOp a_microTarget a_microA a_microB a_microUsed a_finalOperand a_constant a_newStack a_wordOperand a_oldValues a_tempValues a_disk a_roots a_table a_newTable a_placeUsed a_state => J80 y0 y1 (f_size, f_status, f_at, f_stackSize, f_returnSize, f_inputSize, f_outputSize, f_blocks, f_micros, f_finals, f_constants, f_newSize, f_taken, f_peak, f_temps, f_root, f_changedPages, f_writesLeft, f_broken, a_ops, a_numbers, a_stack, a_returns, a_words, a_inputs, a_outs, a_blockAt, a_leads, a_blockCost, a_blockNeed, a_blockPeak, a_microFrom, a_finalFrom, a_blockNext, a_blockTest, a_blockTarget, a_microOp, a_microTarget, a_microA, a_microB, a_microUsed, a_finalOperand, a_constant, a_newStack, a_wordOperand, a_oldValues, a_tempValues, a_disk, a_roots, a_table, a_newTable, a_placeUsed, a_state)) x1 x2 x3 x5 z0 (gc_size c) (gm_status m) (gm_at m) (gm_stackSize m) (gm_returnSize m) (gm_inputSize m) (gm_outputSize m) (gb_blocks b) (gx_micros x) (gb_finals b) (gx_constants x) (gx_newSize x) (gx_taken x) (gx_peak x) (gx_temps x) (gd_root d) (gm_changedPages m) (gd_writesLeft d) (gd_broken d) (gc_ops c) (gc_numbers c) (gm_stack m) (gm_returns m) (gm_words m) (gm_inputs m) (gm_outs m) (gb_blockAt b) (gb_leads b) (gb_blockCost b) (gb_blockNeed b) (gb_blockPeak b) (gb_microFrom b) (gb_finalFrom b) (gb_blockNext b) (gb_blockTest b) (gb_blockTarget b) (gx_microOp x) (gx_microTarget x) (gx_microA x) (gx_microB x) (gb_microUsed b) (gb_finalOperand b) (gx_constant x) (gx_newStack x) (gx_wordOperand x) (ge_oldValues e) (ge_tempValues e) (gd_disk d) (gd_roots d) (gd_table d) (gd_newTable d) (gd_placeUsed d) (gd_state d)
def lo_translateBlock_127 (post : SX → Prop) (J80 : Int32 → Int32 → SX → Prop) (x1 : Int32) (x2 : Int32) (x3 : Int32) (x5 : Int32) (c : ty_C) (m : ty_M) (e : ty_E) (b : ty_B) (x : ty_X) (d : ty_D) : Prop := wX_translateBlock_127 post (fun y0 y1 f_size f_status f_at f_stackSize f_returnSize f_inputSize f_outputSize f_blocks f_micros f_finals f_constants f_newSize f_taken f_peak f_temps f_root f_changedPages f_writesLeft f_broken a_ops a_numbers a_stack a_returns a_words a_inputs a_outs a_blockAt a_leads a_blockCost a_blockNeed a_blockPeak a_microFrom a_finalFrom a_blockNext a_blockTest a_blockTarget a_microOp a_microTarget a_microA a_microB a_microUsed a_finalOperand a_constant a_newStack a_wordOperand a_oldValues a_tempValues a_disk a_roots a_table a_newTable a_placeUsed a_state => J80 y0 y1 (f_size, f_status, f_at, f_stackSize, f_returnSize, f_inputSize, f_outputSize, f_blocks, f_micros, f_finals, f_constants, f_newSize, f_taken, f_peak, f_temps, f_root, f_changedPages, f_writesLeft, f_broken, a_ops, a_numbers, a_stack, a_returns, a_words, a_inputs, a_outs, a_blockAt, a_leads, a_blockCost, a_blockNeed, a_blockPeak, a_microFrom, a_finalFrom, a_blockNext, a_blockTest, a_blockTarget, a_microOp, a_microTarget, a_microA, a_microB, a_microUsed, a_finalOperand, a_constant, a_newStack, a_wordOperand, a_oldValues, a_tempValues, a_disk, a_roots, a_table, a_newTable, a_placeUsed, a_state)) x1 x2 x3 x5 (gc_size c) (gm_status m) (gm_at m) (gm_stackSize m) (gm_returnSize m) (gm_inputSize m) (gm_outputSize m) (gb_blocks b) (gx_micros x) (gb_finals b) (gx_constants x) (gx_newSize x) (gx_taken x) (gx_peak x) (gx_temps x) (gd_root d) (gm_changedPages m) (gd_writesLeft d) (gd_broken d) (gc_ops c) (gc_numbers c) (gm_stack m) (gm_returns m) (gm_words m) (gm_inputs m) (gm_outs m) (gb_blockAt b) (gb_leads b) (gb_blockCost b) (gb_blockNeed b) (gb_blockPeak b) (gb_microFrom b) (gb_finalFrom b) (gb_blockNext b) (gb_blockTest b) (gb_blockTarget b) (gx_microOp x) (gx_microTarget x) (gx_microA x) (gx_microB x) (gb_microUsed b) (gb_finalOperand b) (gx_constant x) (gx_newStack x) (gx_wordOperand x) (ge_oldValues e) (ge_tempValues e) (gd_disk d) (gd_roots d) (gd_table d) (gd_newTable d) (gd_placeUsed d) (gd_state d)
def lo_translateBlock_123 (post : SX → Prop) (J80 : Int32 → Int32 → SX → Prop) (x1 : Int32) (x2 : Int32) (x3 : Int32) (x5 : Int32) (c : ty_C) (m : ty_M) (e : ty_E) (b : ty_B) (x : ty_X) (d : ty_D) : Prop := wX_translateBlock_123 post (fun y0 y1 f_size f_status f_at f_stackSize f_returnSize f_inputSize f_outputSize f_blocks f_micros f_finals f_constants f_newSize f_taken f_peak f_temps f_root f_changedPages f_writesLeft f_broken a_ops a_numbers a_stack a_returns a_words a_inputs a_outs a_blockAt a_leads a_blockCost a_blockNeed a_blockPeak a_microFrom a_finalFrom a_blockNext a_blockTest a_blockTarget a_microOp a_microTarget a_microA a_microB a_microUsed a_finalOperand a_constant a_newStack a_wordOperand a_oldValues a_tempValues a_disk a_roots a_table a_newTable a_placeUsed a_state => J80 y0 y1 (f_size, f_status, f_at, f_stackSize, f_returnSize, f_inputSize, f_outputSize, f_blocks, f_micros, f_finals, f_constants, f_newSize, f_taken, f_peak, f_temps, f_root, f_changedPages, f_writesLeft, f_broken, a_ops, a_numbers, a_stack, a_returns, a_words, a_inputs, a_outs, a_blockAt, a_leads, a_blockCost, a_blockNeed, a_blockPeak, a_microFrom, a_finalFrom, a_blockNext, a_blockTest, a_blockTarget, a_microOp, a_microTarget, a_microA, a_microB, a_microUsed, a_finalOperand, a_constant, a_newStack, a_wordOperand, a_oldValues, a_tempValues, a_disk, a_roots, a_table, a_newTable, a_placeUsed, a_state)) x1 x2 x3 x5 (gc_size c) (gm_status m) (gm_at m) (gm_stackSize m) (gm_returnSize m) (gm_inputSize m) (gm_outputSize m) (gb_blocks b) (gx_micros x) (gb_finals b) (gx_constants x) (gx_newSize x) (gx_taken x) (gx_peak x) (gx_temps x) (gd_root d) (gm_changedPages m) (gd_writesLeft d) (gd_broken d) (gc_ops c) (gc_numbers c) (gm_stack m) (gm_returns m) (gm_words m) (gm_inputs m) (gm_outs m) (gb_blockAt b) (gb_leads b) (gb_blockCost b) (gb_blockNeed b) (gb_blockPeak b) (gb_microFrom b) (gb_finalFrom b) (gb_blockNext b) (gb_blockTest b) (gb_blockTarget b) (gx_microOp x) (gx_microTarget x) (gx_microA x) (gx_microB x) (gb_microUsed b) (gb_finalOperand b) (gx_constant x) (gx_newStack x) (gx_wordOperand x) (ge_oldValues e) (ge_tempValues e) (gd_disk d) (gd_roots d) (gd_table d) (gd_newTable d) (gd_placeUsed d) (gd_state d)
def lo_translateBlock_80 (post : SX → Prop) (x1 : Int32) (x2 : Int32) (n : Nat) (x3 : Int32) (x4 : Int32) (c : ty_C) (m : ty_M) (e : ty_E) (b : ty_B) (x : ty_X) (d : ty_D) : Prop := wX_translateBlock_80 post x1 x2 n x3 x4 (gc_size c) (gm_status m) (gm_at m) (gm_stackSize m) (gm_returnSize m) (gm_inputSize m) (gm_outputSize m) (gb_blocks b) (gx_micros x) (gb_finals b) (gx_constants x) (gx_newSize x) (gx_taken x) (gx_peak x) (gx_temps x) (gd_root d) (gm_changedPages m) (gd_writesLeft d) (gd_broken d) (gc_ops c) (gc_numbers c) (gm_stack m) (gm_returns m) (gm_words m) (gm_inputs m) (gm_outs m) (gb_blockAt b) (gb_leads b) (gb_blockCost b) (gb_blockNeed b) (gb_blockPeak b) (gb_microFrom b) (gb_finalFrom b) (gb_blockNext b) (gb_blockTest b) (gb_blockTarget b) (gx_microOp x) (gx_microTarget x) (gx_microA x) (gx_microB x) (gb_microUsed b) (gb_finalOperand b) (gx_constant x) (gx_newStack x) (gx_wordOperand x) (ge_oldValues e) (ge_tempValues e) (gd_disk d) (gd_roots d) (gd_table d) (gd_newTable d) (gd_placeUsed d) (gd_state d)
def lo_translateBlock_56 (post : SX → Prop) (x1 : Int32) (x2 : Int32) (n : Nat) (x3 : Int32) (c : ty_C) (m : ty_M) (e : ty_E) (b : ty_B) (x : ty_X) (d : ty_D) : Prop := wX_translateBlock_56 post x1 x2 (gc_size c) (gm_status m) (gm_at m) (gm_stackSize m) (gm_returnSize m) (gm_inputSize m) (gm_outputSize m) (gb_blocks b) (gx_micros x) (gb_finals b) (gx_constants x) (gx_newSize x) (gx_taken x) (gx_peak x) (gx_temps x) (gd_root d) (gm_changedPages m) (gd_writesLeft d) (gd_broken d) n x3 (gc_ops c) (gc_numbers c) (gm_stack m) (gm_returns m) (gm_words m) (gm_inputs m) (gm_outs m) (gb_blockAt b) (gb_leads b) (gb_blockCost b) (gb_blockNeed b) (gb_blockPeak b) (gb_microFrom b) (gb_finalFrom b) (gb_blockNext b) (gb_blockTest b) (gb_blockTarget b) (gx_microOp x) (gx_microTarget x) (gx_microA x) (gx_microB x) (gb_microUsed b) (gb_finalOperand b) (gx_constant x) (gx_newStack x) (gx_wordOperand x) (ge_oldValues e) (ge_tempValues e) (gd_disk d) (gd_roots d) (gd_table d) (gd_newTable d) (gd_placeUsed d) (gd_state d)
def lo_translate_82 (post : SX → Prop) (J26 : Int32 → SX → Prop) (x1 : Int32) (z0 : Int32) (c : ty_C) (m : ty_M) (e : ty_E) (b : ty_B) (x : ty_X) (d : ty_D) : Prop := wX_translate_82 post (fun y0 f_size f_status f_at f_stackSize f_returnSize f_inputSize f_outputSize f_blocks f_micros f_finals f_constants f_newSize f_taken f_peak f_temps f_root f_changedPages f_writesLeft f_broken a_ops a_numbers a_stack a_returns a_words a_inputs a_outs a_blockAt a_leads a_blockCost a_blockNeed a_blockPeak a_microFrom a_finalFrom a_blockNext a_blockTest a_blockTarget a_microOp a_microTarget a_microA a_microB a_microUsed a_finalOperand a_constant a_newStack a_wordOperand a_oldValues a_tempValues a_disk a_roots a_table a_newTable a_placeUsed a_state => J26 y0 (f_size, f_status, f_at, f_stackSize, f_returnSize, f_inputSize, f_outputSize, f_blocks, f_micros, f_finals, f_constants, f_newSize, f_taken, f_peak, f_temps, f_root, f_changedPages, f_writesLeft, f_broken, a_ops, a_numbers, a_stack, a_returns, a_words, a_inputs, a_outs, a_blockAt, a_leads, a_blockCost, a_blockNeed, a_blockPeak, a_microFrom, a_finalFrom, a_blockNext, a_blockTest, a_blockTarget, a_microOp, a_microTarget, a_microA, a_microB, a_microUsed, a_finalOperand, a_constant, a_newStack, a_wordOperand, a_oldValues, a_tempValues, a_disk, a_roots, a_table, a_newTable, a_placeUsed, a_state)) x1 z0 (gc_size c) (gm_status m) (gm_at m) (gm_stackSize m) (gm_returnSize m) (gm_inputSize m) (gm_outputSize m) (gb_blocks b) (gx_micros x) (gb_finals b) (gx_constants x) (gx_newSize x) (gx_taken x) (gx_peak x) (gx_temps x) (gd_root d) (gm_changedPages m) (gd_writesLeft d) (gd_broken d) (gc_ops c) (gc_numbers c) (gm_stack m) (gm_returns m) (gm_words m) (gm_inputs m) (gm_outs m) (gb_blockAt b) (gb_leads b) (gb_blockCost b) (gb_blockNeed b) (gb_blockPeak b) (gb_microFrom b) (gb_finalFrom b) (gb_blockNext b) (gb_blockTest b) (gb_blockTarget b) (gx_microOp x) (gx_microTarget x) (gx_microA x) (gx_microB x) (gb_microUsed b) (gb_finalOperand b) (gx_constant x) (gx_newStack x) (gx_wordOperand x) (ge_oldValues e) (ge_tempValues e) (gd_disk d) (gd_roots d) (gd_table d) (gd_newTable d) (gd_placeUsed d) (gd_state d)
def lo_translate_81 (post : SX → Prop) (J26 : Int32 → SX → Prop) (x1 : Int32) (c : ty_C) (m : ty_M) (e : ty_E) (b : ty_B) (x : ty_X) (d : ty_D) : Prop := wX_translate_81 post (fun y0 f_size f_status f_at f_stackSize f_returnSize f_inputSize f_outputSize f_blocks f_micros f_finals f_constants f_newSize f_taken f_peak f_temps f_root f_changedPages f_writesLeft f_broken a_ops a_numbers a_stack a_returns a_words a_inputs a_outs a_blockAt a_leads a_blockCost a_blockNeed a_blockPeak a_microFrom a_finalFrom a_blockNext a_blockTest a_blockTarget a_microOp a_microTarget a_microA a_microB a_microUsed a_finalOperand a_constant a_newStack a_wordOperand a_oldValues a_tempValues a_disk a_roots a_table a_newTable a_placeUsed a_state => J26 y0 (f_size, f_status, f_at, f_stackSize, f_returnSize, f_inputSize, f_outputSize, f_blocks, f_micros, f_finals, f_constants, f_newSize, f_taken, f_peak, f_temps, f_root, f_changedPages, f_writesLeft, f_broken, a_ops, a_numbers, a_stack, a_returns, a_words, a_inputs, a_outs, a_blockAt, a_leads, a_blockCost, a_blockNeed, a_blockPeak, a_microFrom, a_finalFrom, a_blockNext, a_blockTest, a_blockTarget, a_microOp, a_microTarget, a_microA, a_microB, a_microUsed, a_finalOperand, a_constant, a_newStack, a_wordOperand, a_oldValues, a_tempValues, a_disk, a_roots, a_table, a_newTable, a_placeUsed, a_state)) x1 (gc_size c) (gm_status m) (gm_at m) (gm_stackSize m) (gm_returnSize m) (gm_inputSize m) (gm_outputSize m) (gb_blocks b) (gx_micros x) (gb_finals b) (gx_constants x) (gx_newSize x) (gx_taken x) (gx_peak x) (gx_temps x) (gd_root d) (gm_changedPages m) (gd_writesLeft d) (gd_broken d) (gc_ops c) (gc_numbers c) (gm_stack m) (gm_returns m) (gm_words m) (gm_inputs m) (gm_outs m) (gb_blockAt b) (gb_leads b) (gb_blockCost b) (gb_blockNeed b) (gb_blockPeak b) (gb_microFrom b) (gb_finalFrom b) (gb_blockNext b) (gb_blockTest b) (gb_blockTarget b) (gx_microOp x) (gx_microTarget x) (gx_microA x) (gx_microB x) (gb_microUsed b) (gb_finalOperand b) (gx_constant x) (gx_newStack x) (gx_wordOperand x) (ge_oldValues e) (ge_tempValues e) (gd_disk d) (gd_roots d) (gd_table d) (gd_newTable d) (gd_placeUsed d) (gd_state d)
def lo_translate_77 (post : SX → Prop) (J26 : Int32 → SX → Prop) (x1 : Int32) (c : ty_C) (m : ty_M) (e : ty_E) (b : ty_B) (x : ty_X) (d : ty_D) : Prop := wX_translate_77 post (fun y0 f_size f_status f_at f_stackSize f_returnSize f_inputSize f_outputSize f_blocks f_micros f_finals f_constants f_newSize f_taken f_peak f_temps f_root f_changedPages f_writesLeft f_broken a_ops a_numbers a_stack a_returns a_words a_inputs a_outs a_blockAt a_leads a_blockCost a_blockNeed a_blockPeak a_microFrom a_finalFrom a_blockNext a_blockTest a_blockTarget a_microOp a_microTarget a_microA a_microB a_microUsed a_finalOperand a_constant a_newStack a_wordOperand a_oldValues a_tempValues a_disk a_roots a_table a_newTable a_placeUsed a_state => J26 y0 (f_size, f_status, f_at, f_stackSize, f_returnSize, f_inputSize, f_outputSize, f_blocks, f_micros, f_finals, f_constants, f_newSize, f_taken, f_peak, f_temps, f_root, f_changedPages, f_writesLeft, f_broken, a_ops, a_numbers, a_stack, a_returns, a_words, a_inputs, a_outs, a_blockAt, a_leads, a_blockCost, a_blockNeed, a_blockPeak, a_microFrom, a_finalFrom, a_blockNext, a_blockTest, a_blockTarget, a_microOp, a_microTarget, a_microA, a_microB, a_microUsed, a_finalOperand, a_constant, a_newStack, a_wordOperand, a_oldValues, a_tempValues, a_disk, a_roots, a_table, a_newTable, a_placeUsed, a_state)) x1 (gc_size c) (gm_status m) (gm_at m) (gm_stackSize m) (gm_returnSize m) (gm_inputSize m) (gm_outputSize m) (gb_blocks b) (gx_micros x) (gb_finals b) (gx_constants x) (gx_newSize x) (gx_taken x) (gx_peak x) (gx_temps x) (gd_root d) (gm_changedPages m) (gd_writesLeft d) (gd_broken d) (gc_ops c) (gc_numbers c) (gm_stack m) (gm_returns m) (gm_words m) (gm_inputs m) (gm_outs m) (gb_blockAt b) (gb_leads b) (gb_blockCost b) (gb_blockNeed b) (gb_blockPeak b) (gb_microFrom b) (gb_finalFrom b) (gb_blockNext b) (gb_blockTest b) (gb_blockTarget b) (gx_microOp x) (gx_microTarget x) (gx_microA x) (gx_microB x) (gb_microUsed b) (gb_finalOperand b) (gx_constant x) (gx_newStack x) (gx_wordOperand x) (ge_oldValues e) (ge_tempValues e) (gd_disk d) (gd_roots d) (gd_table d) (gd_newTable d) (gd_placeUsed d) (gd_state d)
def lo_translate_26 (post : SX → Prop) (n : Nat) (x1 : Int32) (c : ty_C) (m : ty_M) (e : ty_E) (b : ty_B) (x : ty_X) (d : ty_D) : Prop := wX_translate_26 post n x1 (gc_size c) (gm_status m) (gm_at m) (gm_stackSize m) (gm_returnSize m) (gm_inputSize m) (gm_outputSize m) (gb_blocks b) (gx_micros x) (gb_finals b) (gx_constants x) (gx_newSize x) (gx_taken x) (gx_peak x) (gx_temps x) (gd_root d) (gm_changedPages m) (gd_writesLeft d) (gd_broken d) (gc_ops c) (gc_numbers c) (gm_stack m) (gm_returns m) (gm_words m) (gm_inputs m) (gm_outs m) (gb_blockAt b) (gb_leads b) (gb_blockCost b) (gb_blockNeed b) (gb_blockPeak b) (gb_microFrom b) (gb_finalFrom b) (gb_blockNext b) (gb_blockTest b) (gb_blockTarget b) (gx_microOp x) (gx_microTarget x) (gx_microA x) (gx_microB x) (gb_microUsed b) (gb_finalOperand b) (gx_constant x) (gx_newStack x) (gx_wordOperand x) (ge_oldValues e) (ge_tempValues e) (gd_disk d) (gd_roots d) (gd_table d) (gd_newTable d) (gd_placeUsed d) (gd_state d)
def lo_packState_178 (post : SX → Prop) (n : Nat) (x1 : Int32) (c : ty_C) (m : ty_M) (e : ty_E) (b : ty_B) (x : ty_X) (d : ty_D) : Prop := wX_packState_178 post (gc_size c) (gm_status m) (gm_at m) (gm_stackSize m) (gm_returnSize m) (gm_inputSize m) (gm_outputSize m) (gb_blocks b) (gx_micros x) (gb_finals b) (gx_constants x) (gx_newSize x) (gx_taken x) (gx_peak x) (gx_temps x) (gd_root d) (gm_changedPages m) (gd_writesLeft d) (gd_broken d) n x1 (gc_ops c) (gc_numbers c) (gm_stack m) (gm_returns m) (gm_words m) (gm_inputs m) (gm_outs m) (gb_blockAt b) (gb_leads b) (gb_blockCost b) (gb_blockNeed b) (gb_blockPeak b) (gb_microFrom b) (gb_finalFrom b) (gb_blockNext b) (gb_blockTest b) (gb_blockTarget b) (gx_microOp x) (gx_microTarget x) (gx_microA x) (gx_microB x) (gb_microUsed b) (gb_finalOperand b) (gx_constant x) (gx_newStack x) (gx_wordOperand x) (ge_oldValues e) (ge_tempValues e) (gd_disk d) (gd_roots d) (gd_table d) (gd_newTable d) (gd_placeUsed d) (gd_state d)
def lo_packState_136 (post : SX → Prop) (n : Nat) (x1 : Int32) (c : ty_C) (m : ty_M) (e : ty_E) (b : ty_B) (x : ty_X) (d : ty_D) : Prop := wX_packState_136 post (gc_size c) (gm_status m) (gm_at m) (gm_stackSize m) (gm_returnSize m) (gm_inputSize m) (gm_outputSize m) (gb_blocks b) (gx_micros x) (gb_finals b) (gx_constants x) (gx_newSize x) (gx_taken x) (gx_peak x) (gx_temps x) (gd_root d) (gm_changedPages m) (gd_writesLeft d) (gd_broken d) n x1 (gc_ops c) (gc_numbers c) (gm_stack m) (gm_returns m) (gm_words m) (gm_inputs m) (gm_outs m) (gb_blockAt b) (gb_leads b) (gb_blockCost b) (gb_blockNeed b) (gb_blockPeak b) (gb_microFrom b) (gb_finalFrom b) (gb_blockNext b) (gb_blockTest b) (gb_blockTarget b) (gx_microOp x) (gx_microTarget x) (gx_microA x) (gx_microB x) (gb_microUsed b) (gb_finalOperand b) (gx_constant x) (gx_newStack x) (gx_wordOperand x) (ge_oldValues e) (ge_tempValues e) (gd_disk d) (gd_roots d) (gd_table d) (gd_newTable d) (gd_placeUsed d) (gd_state d)
def lo_packState_94 (post : SX → Prop) (n : Nat) (x1 : Int32) (c : ty_C) (m : ty_M) (e : ty_E) (b : ty_B) (x : ty_X) (d : ty_D) : Prop := wX_packState_94 post (gc_size c) (gm_status m) (gm_at m) (gm_stackSize m) (gm_returnSize m) (gm_inputSize m) (gm_outputSize m) (gb_blocks b) (gx_micros x) (gb_finals b) (gx_constants x) (gx_newSize x) (gx_taken x) (gx_peak x) (gx_temps x) (gd_root d) (gm_changedPages m) (gd_writesLeft d) (gd_broken d) n x1 (gc_ops c) (gc_numbers c) (gm_stack m) (gm_returns m) (gm_words m) (gm_inputs m) (gm_outs m) (gb_blockAt b) (gb_leads b) (gb_blockCost b) (gb_blockNeed b) (gb_blockPeak b) (gb_microFrom b) (gb_finalFrom b) (gb_blockNext b) (gb_blockTest b) (gb_blockTarget b) (gx_microOp x) (gx_microTarget x) (gx_microA x) (gx_microB x) (gb_microUsed b) (gb_finalOperand b) (gx_constant x) (gx_newStack x) (gx_wordOperand x) (ge_oldValues e) (ge_tempValues e) (gd_disk d) (gd_roots d) (gd_table d) (gd_newTable d) (gd_placeUsed d) (gd_state d)
def lo_packState_53 (post : SX → Prop) (n : Nat) (x1 : Int32) (c : ty_C) (m : ty_M) (e : ty_E) (b : ty_B) (x : ty_X) (d : ty_D) : Prop := wX_packState_53 post (gc_size c) (gm_status m) (gm_at m) (gm_stackSize m) (gm_returnSize m) (gm_inputSize m) (gm_outputSize m) (gb_blocks b) (gx_micros x) (gb_finals b) (gx_constants x) (gx_newSize x) (gx_taken x) (gx_peak x) (gx_temps x) (gd_root d) (gm_changedPages m) (gd_writesLeft d) (gd_broken d) n x1 (gc_ops c) (gc_numbers c) (gm_stack m) (gm_returns m) (gm_words m) (gm_inputs m) (gm_outs m) (gb_blockAt b) (gb_leads b) (gb_blockCost b) (gb_blockNeed b) (gb_blockPeak b) (gb_microFrom b) (gb_finalFrom b) (gb_blockNext b) (gb_blockTest b) (gb_blockTarget b) (gx_microOp x) (gx_microTarget x) (gx_microA x) (gx_microB x) (gb_microUsed b) (gb_finalOperand b) (gx_constant x) (gx_newStack x) (gx_wordOperand x) (ge_oldValues e) (ge_tempValues e) (gd_disk d) (gd_roots d) (gd_table d) (gd_newTable d) (gd_placeUsed d) (gd_state d)
def lo_packState_2 (post : SX → Prop) (n : Nat) (x1 : Int32) (c : ty_C) (m : ty_M) (e : ty_E) (b : ty_B) (x : ty_X) (d : ty_D) : Prop := wX_packState_2 post (gc_size c) (gm_status m) (gm_at m) (gm_stackSize m) (gm_returnSize m) (gm_inputSize m) (gm_outputSize m) (gb_blocks b) (gx_micros x) (gb_finals b) (gx_constants x) (gx_newSize x) (gx_taken x) (gx_peak x) (gx_temps x) (gd_root d) (gm_changedPages m) (gd_writesLeft d) (gd_broken d) n x1 (gc_ops c) (gc_numbers c) (gm_stack m) (gm_returns m) (gm_words m) (gm_inputs m) (gm_outs m) (gb_blockAt b) (gb_leads b) (gb_blockCost b) (gb_blockNeed b) (gb_blockPeak b) (gb_microFrom b) (gb_finalFrom b) (gb_blockNext b) (gb_blockTest b) (gb_blockTarget b) (gx_microOp x) (gx_microTarget x) (gx_microA x) (gx_microB x) (gb_microUsed b) (gb_finalOperand b) (gx_constant x) (gx_newStack x) (gx_wordOperand x) (ge_oldValues e) (ge_tempValues e) (gd_disk d) (gd_roots d) (gd_table d) (gd_newTable d) (gd_placeUsed d) (gd_state d)
def lo_isChanged_17 (post : Int32 → Prop) (x1 : Int32) (n : Nat) (x2 : Int32) (x3 : Int32) (c : ty_C) (m : ty_M) (e : ty_E) (b : ty_B) (x : ty_X) (d : ty_D) : Prop := wX_isChanged_17 post x1 (gc_size c) (gm_status m) (gm_at m) (gm_stackSize m) (gm_returnSize m) (gm_inputSize m) (gm_outputSize m) (gb_blocks b) (gx_micros x) (gb_finals b) (gx_constants x) (gx_newSize x) (gx_taken x) (gx_peak x) (gx_temps x) (gd_root d) (gm_changedPages m) (gd_writesLeft d) (gd_broken d) (gc_ops c) (gc_numbers c) (gm_stack m) (gm_returns m) (gm_words m) (gm_inputs m) (gm_outs m) (gb_blockAt b) (gb_leads b) (gb_blockCost b) (gb_blockNeed b) (gb_blockPeak b) (gb_microFrom b) (gb_finalFrom b) (gb_blockNext b) (gb_blockTest b) (gb_blockTarget b) (gx_microOp x) (gx_microTarget x) (gx_microA x) (gx_microB x) (gb_microUsed b) (gb_finalOperand b) (gx_constant x) (gx_newStack x) (gx_wordOperand x) (ge_oldValues e) (ge_tempValues e) (gd_disk d) (gd_roots d) (gd_table d) (gd_newTable d) (gd_placeUsed d) (gd_state d) n x2 x3
def lo_freePlace_2 (post : Int32 → SX → Prop) (n : Nat) (x1 : Int32) (c : ty_C) (m : ty_M) (e : ty_E) (b : ty_B) (x : ty_X) (d : ty_D) : Prop := wX_freePlace_2 post (gc_size c) (gm_status m) (gm_at m) (gm_stackSize m) (gm_returnSize m) (gm_inputSize m) (gm_outputSize m) (gb_blocks b) (gx_micros x) (gb_finals b) (gx_constants x) (gx_newSize x) (gx_taken x) (gx_peak x) (gx_temps x) (gd_root d) (gm_changedPages m) (gd_writesLeft d) (gd_broken d) (gc_ops c) (gc_numbers c) (gm_stack m) (gm_returns m) (gm_words m) (gm_inputs m) (gm_outs m) (gb_blockAt b) (gb_leads b) (gb_blockCost b) (gb_blockNeed b) (gb_blockPeak b) (gb_microFrom b) (gb_finalFrom b) (gb_blockNext b) (gb_blockTest b) (gb_blockTarget b) (gx_microOp x) (gx_microTarget x) (gx_microA x) (gx_microB x) (gb_microUsed b) (gb_finalOperand b) (gx_constant x) (gx_newStack x) (gx_wordOperand x) (ge_oldValues e) (ge_tempValues e) (gd_disk d) (gd_roots d) (gd_table d) (gd_newTable d) (gd_placeUsed d) (gd_state d) n x1
def lo_canWrite_32 (post : Int32 → SX → Prop) (c : ty_C) (m : ty_M) (e : ty_E) (b : ty_B) (x : ty_X) (d : ty_D) : Prop := wX_canWrite_32 post (gc_size c) (gm_status m) (gm_at m) (gm_stackSize m) (gm_returnSize m) (gm_inputSize m) (gm_outputSize m) (gb_blocks b) (gx_micros x) (gb_finals b) (gx_constants x) (gx_newSize x) (gx_taken x) (gx_peak x) (gx_temps x) (gd_root d) (gm_changedPages m) (gd_writesLeft d) (gd_broken d) (gc_ops c) (gc_numbers c) (gm_stack m) (gm_returns m) (gm_words m) (gm_inputs m) (gm_outs m) (gb_blockAt b) (gb_leads b) (gb_blockCost b) (gb_blockNeed b) (gb_blockPeak b) (gb_microFrom b) (gb_finalFrom b) (gb_blockNext b) (gb_blockTest b) (gb_blockTarget b) (gx_microOp x) (gx_microTarget x) (gx_microA x) (gx_microB x) (gb_microUsed b) (gb_finalOperand b) (gx_constant x) (gx_newStack x) (gx_wordOperand x) (ge_oldValues e) (ge_tempValues e) (gd_disk d) (gd_roots d) (gd_table d) (gd_newTable d) (gd_placeUsed d) (gd_state d)
def lo_writePage_7 (post : SX → Prop) (x1 : Int32) (x2 : Int32) (n : Nat) (x3 : Int32) (c : ty_C) (m : ty_M) (e : ty_E) (b : ty_B) (x : ty_X) (d : ty_D) : Prop := wX_writePage_7 post x1 x2 n x3 (gc_size c) (gm_status m) (gm_at m) (gm_stackSize m) (gm_returnSize m) (gm_inputSize m) (gm_outputSize m) (gb_blocks b) (gx_micros x) (gb_finals b) (gx_constants x) (gx_newSize x) (gx_taken x) (gx_peak x) (gx_temps x) (gd_root d) (gm_changedPages m) (gd_writesLeft d) (gd_broken d) (gc_ops c) (gc_numbers c) (gm_stack m) (gm_returns m) (gm_words m) (gm_inputs m) (gm_outs m) (gb_blockAt b) (gb_leads b) (gb_blockCost b) (gb_blockNeed b) (gb_blockPeak b) (gb_microFrom b) (gb_finalFrom b) (gb_blockNext b) (gb_blockTest b) (gb_blockTarget b) (gx_microOp x) (gx_microTarget x) (gx_microA x) (gx_microB x) (gb_microUsed b) (gb_finalOperand b) (gx_constant x) (gx_newStack x) (gx_wordOperand x) (ge_oldValues e) (ge_tempValues e) (gd_disk d) (gd_roots d) (gd_table d) (gd_newTable d) (gd_placeUsed d) (gd_state d)
def lo_writeRoot_35 (post : SX → Prop) (x1 : Int32) (x2 : Int32) (x3 : Int32) (n : Nat) (x4 : Int32) (x5 : Int32) (c : ty_C) (m : ty_M) (e : ty_E) (b : ty_B) (x : ty_X) (d : ty_D) : Prop := wX_writeRoot_35 post x1 x2 x3 n x4 x5 (gc_size c) (gm_status m) (gm_at m) (gm_stackSize m) (gm_returnSize m) (gm_inputSize m) (gm_outputSize m) (gb_blocks b) (gx_micros x) (gb_finals b) (gx_constants x) (gx_newSize x) (gx_taken x) (gx_peak x) (gx_temps x) (gd_root d) (gm_changedPages m) (gd_writesLeft d) (gd_broken d) (gc_ops c) (gc_numbers c) (gm_stack m) (gm_returns m) (gm_words m) (gm_inputs m) (gm_outs m) (gb_blockAt b) (gb_leads b) (gb_blockCost b) (gb_blockNeed b) (gb_blockPeak b) (gb_microFrom b) (gb_finalFrom b) (gb_blockNext b) (gb_blockTest b) (gb_blockTarget b) (gx_microOp x) (gx_microTarget x) (gx_microA x) (gx_microB x) (gb_microUsed b) (gb_finalOperand b) (gx_constant x) (gx_newStack x) (gx_wordOperand x) (ge_oldValues e) (ge_tempValues e) (gd_disk d) (gd_roots d) (gd_table d) (gd_newTable d) (gd_placeUsed d) (gd_state d)
def lo_writeAll_136 (post : Int32 → SX → Prop) (n : Nat) (x2 : Int32) (c : ty_C) (m : ty_M) (e : ty_E) (b : ty_B) (x : ty_X) (d : ty_D) : Prop := wX_writeAll_136 post (gc_size c) (gm_status m) (gm_at m) (gm_stackSize m) (gm_returnSize m) (gm_inputSize m) (gm_outputSize m) (gb_blocks b) (gx_micros x) (gb_finals b) (gx_constants x) (gx_newSize x) (gx_taken x) (gx_peak x) (gx_temps x) (gd_root d) (gm_changedPages m) (gd_writesLeft d) (gd_broken d) n x2 (gc_ops c) (gc_numbers c) (gm_stack m) (gm_returns m) (gm_words m) (gm_inputs m) (gm_outs m) (gb_blockAt b) (gb_leads b) (gb_blockCost b) (gb_blockNeed b) (gb_blockPeak b) (gb_microFrom b) (gb_finalFrom b) (gb_blockNext b) (gb_blockTest b) (gb_blockTarget b) (gx_microOp x) (gx_microTarget x) (gx_microA x) (gx_microB x) (gb_microUsed b) (gb_finalOperand b) (gx_constant x) (gx_newStack x) (gx_wordOperand x) (ge_oldValues e) (ge_tempValues e) (gd_disk d) (gd_roots d) (gd_table d) (gd_newTable d) (gd_placeUsed d) (gd_state d)
def lo_writeAll_110 (post : Int32 → SX → Prop) (x1 : Int32) (z0 : Int32) (c : ty_C) (m : ty_M) (e : ty_E) (b : ty_B) (x : ty_X) (d : ty_D) : Prop := wX_writeAll_110 post x1 z0 (gc_size c) (gm_status m) (gm_at m) (gm_stackSize m) (gm_returnSize m) (gm_inputSize m) (gm_outputSize m) (gb_blocks b) (gx_micros x) (gb_finals b) (gx_constants x) (gx_newSize x) (gx_taken x) (gx_peak x) (gx_temps x) (gd_root d) (gm_changedPages m) (gd_writesLeft d) (gd_broken d) (gc_ops c) (gc_numbers c) (gm_stack m) (gm_returns m) (gm_words m) (gm_inputs m) (gm_outs m) (gb_blockAt b) (gb_leads b) (gb_blockCost b) (gb_blockNeed b) (gb_blockPeak b) (gb_microFrom b) (gb_finalFrom b) (gb_blockNext b) (gb_blockTest b) (gb_blockTarget b) (gx_microOp x) (gx_microTarget x) (gx_microA x) (gx_microB x) (gb_microUsed b) (gb_finalOperand b) (gx_constant x) (gx_newStack x) (gx_wordOperand x) (ge_oldValues e) (ge_tempValues e) (gd_disk d) (gd_roots d) (gd_table d) (gd_newTable d) (gd_placeUsed d) (gd_state d)
def lo_writeAll_75 (post : Int32 → SX → Prop) (x1 : Int32) (n : Nat) (x2 : Int32) (c : ty_C) (m : ty_M) (e : ty_E) (b : ty_B) (x : ty_X) (d : ty_D) : Prop := wX_writeAll_75 post x1 n x2 (gc_size c) (gm_status m) (gm_at m) (gm_stackSize m) (gm_returnSize m) (gm_inputSize m) (gm_outputSize m) (gb_blocks b) (gx_micros x) (gb_finals b) (gx_constants x) (gx_newSize x) (gx_taken x) (gx_peak x) (gx_temps x) (gd_root d) (gm_changedPages m) (gd_writesLeft d) (gd_broken d) (gc_ops c) (gc_numbers c) (gm_stack m) (gm_returns m) (gm_words m) (gm_inputs m) (gm_outs m) (gb_blockAt b) (gb_leads b) (gb_blockCost b) (gb_blockNeed b) (gb_blockPeak b) (gb_microFrom b) (gb_finalFrom b) (gb_blockNext b) (gb_blockTest b) (gb_blockTarget b) (gx_microOp x) (gx_microTarget x) (gx_microA x) (gx_microB x) (gb_microUsed b) (gb_finalOperand b) (gx_constant x) (gx_newStack x) (gx_wordOperand x) (ge_oldValues e) (ge_tempValues e) (gd_disk d) (gd_roots d) (gd_table d) (gd_newTable d) (gd_placeUsed d) (gd_state d)
def lo_writeAll_37 (post : Int32 → SX → Prop) (x1 : Int32) (n : Nat) (x2 : Int32) (c : ty_C) (m : ty_M) (e : ty_E) (b : ty_B) (x : ty_X) (d : ty_D) : Prop := wX_writeAll_37 post x1 (gc_size c) (gm_status m) (gm_at m) (gm_stackSize m) (gm_returnSize m) (gm_inputSize m) (gm_outputSize m) (gb_blocks b) (gx_micros x) (gb_finals b) (gx_constants x) (gx_newSize x) (gx_taken x) (gx_peak x) (gx_temps x) (gd_root d) (gm_changedPages m) (gd_writesLeft d) (gd_broken d) n x2 (gc_ops c) (gc_numbers c) (gm_stack m) (gm_returns m) (gm_words m) (gm_inputs m) (gm_outs m) (gb_blockAt b) (gb_leads b) (gb_blockCost b) (gb_blockNeed b) (gb_blockPeak b) (gb_microFrom b) (gb_finalFrom b) (gb_blockNext b) (gb_blockTest b) (gb_blockTarget b) (gx_microOp x) (gx_microTarget x) (gx_microA x) (gx_microB x) (gb_microUsed b) (gb_finalOperand b) (gx_constant x) (gx_newStack x) (gx_wordOperand x) (ge_oldValues e) (ge_tempValues e) (gd_disk d) (gd_roots d) (gd_table d) (gd_newTable d) (gd_placeUsed d) (gd_state d)
def lo_writeAll_16 (post : Int32 → SX → Prop) (x1 : Int32) (n : Nat) (x2 : Int32) (c : ty_C) (m : ty_M) (e : ty_E) (b : ty_B) (x : ty_X) (d : ty_D) : Prop := wX_writeAll_16 post x1 (gc_size c) (gm_status m) (gm_at m) (gm_stackSize m) (gm_returnSize m) (gm_inputSize m) (gm_outputSize m) (gb_blocks b) (gx_micros x) (gb_finals b) (gx_constants x) (gx_newSize x) (gx_taken x) (gx_peak x) (gx_temps x) (gd_root d) (gm_changedPages m) (gd_writesLeft d) (gd_broken d) n x2 (gc_ops c) (gc_numbers c) (gm_stack m) (gm_returns m) (gm_words m) (gm_inputs m) (gm_outs m) (gb_blockAt b) (gb_leads b) (gb_blockCost b) (gb_blockNeed b) (gb_blockPeak b) (gb_microFrom b) (gb_finalFrom b) (gb_blockNext b) (gb_blockTest b) (gb_blockTarget b) (gx_microOp x) (gx_microTarget x) (gx_microA x) (gx_microB x) (gb_microUsed b) (gb_finalOperand b) (gx_constant x) (gx_newStack x) (gx_wordOperand x) (ge_oldValues e) (ge_tempValues e) (gd_disk d) (gd_roots d) (gd_table d) (gd_newTable d) (gd_placeUsed d) (gd_state d)
def lo_runBlock_100 (post : SX → Prop) (x1 : Int32) (x3 : Int32) (x4 : Int32) (x5 : Int32) (n : Nat) (x6 : Int32) (c : ty_C) (m : ty_M) (e : ty_E) (b : ty_B) (x : ty_X) (d : ty_D) : Prop := wX_runBlock_100 post x1 x3 x4 x5 (gc_size c) (gm_status m) (gm_at m) (gm_stackSize m) (gm_returnSize m) (gm_inputSize m) (gm_outputSize m) (gb_blocks b) (gx_micros x) (gb_finals b) (gx_constants x) (gx_newSize x) (gx_taken x) (gx_peak x) (gx_temps x) (gd_root d) (gm_changedPages m) (gd_writesLeft d) (gd_broken d) n x6 (gc_ops c) (gc_numbers c) (gm_stack m) (gm_returns m) (gm_words m) (gm_inputs m) (gm_outs m) (gb_blockAt b) (gb_leads b) (gb_blockCost b) (gb_blockNeed b) (gb_blockPeak b) (gb_microFrom b) (gb_finalFrom b) (gb_blockNext b) (gb_blockTest b) (gb_blockTarget b) (gx_microOp x) (gx_microTarget x) (gx_microA x) (gx_microB x) (gb_microUsed b) (gb_finalOperand b) (gx_constant x) (gx_newStack x) (gx_wordOperand x) (ge_oldValues e) (ge_tempValues e) (gd_disk d) (gd_roots d) (gd_table d) (gd_newTable d) (gd_placeUsed d) (gd_state d)
def lo_runBlock_46 (post : SX → Prop) (x1 : Int32) (x2 : Int32) (n : Nat) (x3 : Int32) (c : ty_C) (m : ty_M) (e : ty_E) (b : ty_B) (x : ty_X) (d : ty_D) : Prop := wX_runBlock_46 post x1 x2 n x3 (gc_size c) (gm_status m) (gm_at m) (gm_stackSize m) (gm_returnSize m) (gm_inputSize m) (gm_outputSize m) (gb_blocks b) (gx_micros x) (gb_finals b) (gx_constants x) (gx_newSize x) (gx_taken x) (gx_peak x) (gx_temps x) (gd_root d) (gm_changedPages m) (gd_writesLeft d) (gd_broken d) (gc_ops c) (gc_numbers c) (gm_stack m) (gm_returns m) (gm_words m) (gm_inputs m) (gm_outs m) (gb_blockAt b) (gb_leads b) (gb_blockCost b) (gb_blockNeed b) (gb_blockPeak b) (gb_microFrom b) (gb_finalFrom b) (gb_blockNext b) (gb_blockTest b) (gb_blockTarget b) (gx_microOp x) (gx_microTarget x) (gx_microA x) (gx_microB x) (gb_microUsed b) (gb_finalOperand b) (gx_constant x) (gx_newStack x) (gx_wordOperand x) (ge_oldValues e) (ge_tempValues e) (gd_disk d) (gd_roots d) (gd_table d) (gd_newTable d) (gd_placeUsed d) (gd_state d)
def lo_runBlock_9 (post : SX → Prop) (x1 : Int32) (x2 : Int32) (n : Nat) (x3 : Int32) (c : ty_C) (m : ty_M) (e : ty_E) (b : ty_B) (x : ty_X) (d : ty_D) : Prop := wX_runBlock_9 post x1 x2 (gc_size c) (gm_status m) (gm_at m) (gm_stackSize m) (gm_returnSize m) (gm_inputSize m) (gm_outputSize m) (gb_blocks b) (gx_micros x) (gb_finals b) (gx_constants x) (gx_newSize x) (gx_taken x) (gx_peak x) (gx_temps x) (gd_root d) (gm_changedPages m) (gd_writesLeft d) (gd_broken d) n x3 (gc_ops c) (gc_numbers c) (gm_stack m) (gm_returns m) (gm_words m) (gm_inputs m) (gm_outs m) (gb_blockAt b) (gb_leads b) (gb_blockCost b) (gb_blockNeed b) (gb_blockPeak b) (gb_microFrom b) (gb_finalFrom b) (gb_blockNext b) (gb_blockTest b) (gb_blockTarget b) (gx_microOp x) (gx_microTarget x) (gx_microA x) (gx_microB x) (gb_microUsed b) (gb_finalOperand b) (gx_constant x) (gx_newStack x) (gx_wordOperand x) (ge_oldValues e) (ge_tempValues e) (gd_disk d) (gd_roots d) (gd_table d) (gd_newTable d) (gd_placeUsed d) (gd_state d)
def lo_trap_129 (post : Int32 → Prop) (x1 : Int32) (c : ty_C) (m : ty_M) (e : ty_E) (b : ty_B) (x : ty_X) (d : ty_D) : Prop := wX_trap_129 post x1 (gc_size c) (gm_status m) (gm_at m) (gm_stackSize m) (gm_returnSize m) (gm_inputSize m) (gm_outputSize m) (gb_blocks b) (gx_micros x) (gb_finals b) (gx_constants x) (gx_newSize x) (gx_taken x) (gx_peak x) (gx_temps x) (gd_root d) (gm_changedPages m) (gd_writesLeft d) (gd_broken d) (gc_ops c) (gc_numbers c) (gm_stack m) (gm_returns m) (gm_words m) (gm_inputs m) (gm_outs m) (gb_blockAt b) (gb_leads b) (gb_blockCost b) (gb_blockNeed b) (gb_blockPeak b) (gb_microFrom b) (gb_finalFrom b) (gb_blockNext b) (gb_blockTest b) (gb_blockTarget b) (gx_microOp x) (gx_microTarget x) (gx_microA x) (gx_microB x) (gb_microUsed b) (gb_finalOperand b) (gx_constant x) (gx_newStack x) (gx_wordOperand x) (ge_oldValues e) (ge_tempValues e) (gd_disk d) (gd_roots d) (gd_table d) (gd_newTable d) (gd_placeUsed d) (gd_state d)
def lo_trap_113 (post : Int32 → Prop) (x1 : Int32) (c : ty_C) (m : ty_M) (e : ty_E) (b : ty_B) (x : ty_X) (d : ty_D) : Prop := wX_trap_113 post x1 (gc_size c) (gm_status m) (gm_at m) (gm_stackSize m) (gm_returnSize m) (gm_inputSize m) (gm_outputSize m) (gb_blocks b) (gx_micros x) (gb_finals b) (gx_constants x) (gx_newSize x) (gx_taken x) (gx_peak x) (gx_temps x) (gd_root d) (gm_changedPages m) (gd_writesLeft d) (gd_broken d) (gc_ops c) (gc_numbers c) (gm_stack m) (gm_returns m) (gm_words m) (gm_inputs m) (gm_outs m) (gb_blockAt b) (gb_leads b) (gb_blockCost b) (gb_blockNeed b) (gb_blockPeak b) (gb_microFrom b) (gb_finalFrom b) (gb_blockNext b) (gb_blockTest b) (gb_blockTarget b) (gx_microOp x) (gx_microTarget x) (gx_microA x) (gx_microB x) (gb_microUsed b) (gb_finalOperand b) (gx_constant x) (gx_newStack x) (gx_wordOperand x) (ge_oldValues e) (ge_tempValues e) (gd_disk d) (gd_roots d) (gd_table d) (gd_newTable d) (gd_placeUsed d) (gd_state d)
def lo_trap_79 (post : Int32 → Prop) (x1 : Int32) (x2 : Int32) (c : ty_C) (m : ty_M) (e : ty_E) (b : ty_B) (x : ty_X) (d : ty_D) : Prop := wX_trap_79 post x1 x2 (gc_size c) (gm_status m) (gm_at m) (gm_stackSize m) (gm_returnSize m) (gm_inputSize m) (gm_outputSize m) (gb_blocks b) (gx_micros x) (gb_finals b) (gx_constants x) (gx_newSize x) (gx_taken x) (gx_peak x) (gx_temps x) (gd_root d) (gm_changedPages m) (gd_writesLeft d) (gd_broken d) (gc_ops c) (gc_numbers c) (gm_stack m) (gm_returns m) (gm_words m) (gm_inputs m) (gm_outs m) (gb_blockAt b) (gb_leads b) (gb_blockCost b) (gb_blockNeed b) (gb_blockPeak b) (gb_microFrom b) (gb_finalFrom b) (gb_blockNext b) (gb_blockTest b) (gb_blockTarget b) (gx_microOp x) (gx_microTarget x) (gx_microA x) (gx_microB x) (gb_microUsed b) (gb_finalOperand b) (gx_constant x) (gx_newStack x) (gx_wordOperand x) (ge_oldValues e) (ge_tempValues e) (gd_disk d) (gd_roots d) (gd_table d) (gd_newTable d) (gd_placeUsed d) (gd_state d)
def lo_trap_66 (post : Int32 → Prop) (x1 : Int32) (x2 : Int32) (x3 : Int32) (c : ty_C) (m : ty_M) (e : ty_E) (b : ty_B) (x : ty_X) (d : ty_D) : Prop := wX_trap_66 post x1 x2 x3 (gc_size c) (gm_status m) (gm_at m) (gm_stackSize m) (gm_returnSize m) (gm_inputSize m) (gm_outputSize m) (gb_blocks b) (gx_micros x) (gb_finals b) (gx_constants x) (gx_newSize x) (gx_taken x) (gx_peak x) (gx_temps x) (gd_root d) (gm_changedPages m) (gd_writesLeft d) (gd_broken d) (gc_ops c) (gc_numbers c) (gm_stack m) (gm_returns m) (gm_words m) (gm_inputs m) (gm_outs m) (gb_blockAt b) (gb_leads b) (gb_blockCost b) (gb_blockNeed b) (gb_blockPeak b) (gb_microFrom b) (gb_finalFrom b) (gb_blockNext b) (gb_blockTest b) (gb_blockTarget b) (gx_microOp x) (gx_microTarget x) (gx_microA x) (gx_microB x) (gb_microUsed b) (gb_finalOperand b) (gx_constant x) (gx_newStack x) (gx_wordOperand x) (ge_oldValues e) (ge_tempValues e) (gd_disk d) (gd_roots d) (gd_table d) (gd_newTable d) (gd_placeUsed d) (gd_state d)
def lo_trap_54 (post : Int32 → Prop) (x1 : Int32) (x2 : Int32) (x3 : Int32) (c : ty_C) (m : ty_M) (e : ty_E) (b : ty_B) (x : ty_X) (d : ty_D) : Prop := wX_trap_54 post x1 x2 x3 (gc_size c) (gm_status m) (gm_at m) (gm_stackSize m) (gm_returnSize m) (gm_inputSize m) (gm_outputSize m) (gb_blocks b) (gx_micros x) (gb_finals b) (gx_constants x) (gx_newSize x) (gx_taken x) (gx_peak x) (gx_temps x) (gd_root d) (gm_changedPages m) (gd_writesLeft d) (gd_broken d) (gc_ops c) (gc_numbers c) (gm_stack m) (gm_returns m) (gm_words m) (gm_inputs m) (gm_outs m) (gb_blockAt b) (gb_leads b) (gb_blockCost b) (gb_blockNeed b) (gb_blockPeak b) (gb_microFrom b) (gb_finalFrom b) (gb_blockNext b) (gb_blockTest b) (gb_blockTarget b) (gx_microOp x) (gx_microTarget x) (gx_microA x) (gx_microB x) (gb_microUsed b) (gb_finalOperand b) (gx_constant x) (gx_newStack x) (gx_wordOperand x) (ge_oldValues e) (ge_tempValues e) (gd_disk d) (gd_roots d) (gd_table d) (gd_newTable d) (gd_placeUsed d) (gd_state d)
def lo_trap_47 (post : Int32 → Prop) (x1 : Int32) (x2 : Int32) (x3 : Int32) (c : ty_C) (m : ty_M) (e : ty_E) (b : ty_B) (x : ty_X) (d : ty_D) : Prop := wX_trap_47 post x1 x2 x3 (gc_size c) (gm_status m) (gm_at m) (gm_stackSize m) (gm_returnSize m) (gm_inputSize m) (gm_outputSize m) (gb_blocks b) (gx_micros x) (gb_finals b) (gx_constants x) (gx_newSize x) (gx_taken x) (gx_peak x) (gx_temps x) (gd_root d) (gm_changedPages m) (gd_writesLeft d) (gd_broken d) (gc_ops c) (gc_numbers c) (gm_stack m) (gm_returns m) (gm_words m) (gm_inputs m) (gm_outs m) (gb_blockAt b) (gb_leads b) (gb_blockCost b) (gb_blockNeed b) (gb_blockPeak b) (gb_microFrom b) (gb_finalFrom b) (gb_blockNext b) (gb_blockTest b) (gb_blockTarget b) (gx_microOp x) (gx_microTarget x) (gx_microA x) (gx_microB x) (gb_microUsed b) (gb_finalOperand b) (gx_constant x) (gx_newStack x) (gx_wordOperand x) (ge_oldValues e) (ge_tempValues e) (gd_disk d) (gd_roots d) (gd_table d) (gd_newTable d) (gd_placeUsed d) (gd_state d)
def lo_trap_34 (post : Int32 → Prop) (x1 : Int32) (x2 : Int32) (z0 : Int32) (c : ty_C) (m : ty_M) (e : ty_E) (b : ty_B) (x : ty_X) (d : ty_D) : Prop := wX_trap_34 post x1 x2 z0 (gc_size c) (gm_status m) (gm_at m) (gm_stackSize m) (gm_returnSize m) (gm_inputSize m) (gm_outputSize m) (gb_blocks b) (gx_micros x) (gb_finals b) (gx_constants x) (gx_newSize x) (gx_taken x) (gx_peak x) (gx_temps x) (gd_root d) (gm_changedPages m) (gd_writesLeft d) (gd_broken d) (gc_ops c) (gc_numbers c) (gm_stack m) (gm_returns m) (gm_words m) (gm_inputs m) (gm_outs m) (gb_blockAt b) (gb_leads b) (gb_blockCost b) (gb_blockNeed b) (gb_blockPeak b) (gb_microFrom b) (gb_finalFrom b) (gb_blockNext b) (gb_blockTest b) (gb_blockTarget b) (gx_microOp x) (gx_microTarget x) (gx_microA x) (gx_microB x) (gb_microUsed b) (gb_finalOperand b) (gx_constant x) (gx_newStack x) (gx_wordOperand x) (ge_oldValues e) (ge_tempValues e) (gd_disk d) (gd_roots d) (gd_table d) (gd_newTable d) (gd_placeUsed d) (gd_state d)
def lo_turn_123 (post : SX → Prop) (n : Nat) (x4 : Int32) (c : ty_C) (m : ty_M) (e : ty_E) (b : ty_B) (x : ty_X) (d : ty_D) : Prop := wX_turn_123 post (gc_size c) (gm_status m) (gm_at m) (gm_stackSize m) (gm_returnSize m) (gm_inputSize m) (gm_outputSize m) (gb_blocks b) (gx_micros x) (gb_finals b) (gx_constants x) (gx_newSize x) (gx_taken x) (gx_peak x) (gx_temps x) (gd_root d) (gm_changedPages m) (gd_writesLeft d) (gd_broken d) n x4 (gc_ops c) (gc_numbers c) (gm_stack m) (gm_returns m) (gm_words m) (gm_inputs m) (gm_outs m) (gb_blockAt b) (gb_leads b) (gb_blockCost b) (gb_blockNeed b) (gb_blockPeak b) (gb_microFrom b) (gb_finalFrom b) (gb_blockNext b) (gb_blockTest b) (gb_blockTarget b) (gx_microOp x) (gx_microTarget x) (gx_microA x) (gx_microB x) (gb_microUsed b) (gb_finalOperand b) (gx_constant x) (gx_newStack x) (gx_wordOperand x) (ge_oldValues e) (ge_tempValues e) (gd_disk d) (gd_roots d) (gd_table d) (gd_newTable d) (gd_placeUsed d) (gd_state d)
def lo_turn_24 (post : SX → Prop) (x1 : Int32) (x2 : Int32) (x3 : Int32) (c : ty_C) (m : ty_M) (e : ty_E) (b : ty_B) (x : ty_X) (d : ty_D) : Prop := wX_turn_24 post x1 x2 x3 (gc_size c) (gm_status m) (gm_at m) (gm_stackSize m) (gm_returnSize m) (gm_inputSize m) (gm_outputSize m) (gb_blocks b) (gx_micros x) (gb_finals b) (gx_constants x) (gx_newSize x) (gx_taken x) (gx_peak x) (gx_temps x) (gd_root d) (gm_changedPages m) (gd_writesLeft d) (gd_broken d) (gc_ops c) (gc_numbers c) (gm_stack m) (gm_returns m) (gm_words m) (gm_inputs m) (gm_outs m) (gb_blockAt b) (gb_leads b) (gb_blockCost b) (gb_blockNeed b) (gb_blockPeak b) (gb_microFrom b) (gb_finalFrom b) (gb_blockNext b) (gb_blockTest b) (gb_blockTarget b) (gx_microOp x) (gx_microTarget x) (gx_microA x) (gx_microB x) (gb_microUsed b) (gb_finalOperand b) (gx_constant x) (gx_newStack x) (gx_wordOperand x) (ge_oldValues e) (ge_tempValues e) (gd_disk d) (gd_roots d) (gd_table d) (gd_newTable d) (gd_placeUsed d) (gd_state d)
def lo_singleStep_123 (post : Int32 → SX → Prop) (x1 : Int32) (x3 : Int32) (x4 : Int32) (z0 : Int32) (c : ty_C) (m : ty_M) (e : ty_E) (b : ty_B) (x : ty_X) (d : ty_D) : Prop := wX_singleStep_123 post x1 x3 x4 z0 (gc_size c) (gm_status m) (gm_at m) (gm_stackSize m) (gm_returnSize m) (gm_inputSize m) (gm_outputSize m) (gb_blocks b) (gx_micros x) (gb_finals b) (gx_constants x) (gx_newSize x) (gx_taken x) (gx_peak x) (gx_temps x) (gd_root d) (gm_changedPages m) (gd_writesLeft d) (gd_broken d) (gc_ops c) (gc_numbers c) (gm_stack m) (gm_returns m) (gm_words m) (gm_inputs m) (gm_outs m) (gb_blockAt b) (gb_leads b) (gb_blockCost b) (gb_blockNeed b) (gb_blockPeak b) (gb_microFrom b) (gb_finalFrom b) (gb_blockNext b) (gb_blockTest b) (gb_blockTarget b) (gx_microOp x) (gx_microTarget x) (gx_microA x) (gx_microB x) (gb_microUsed b) (gb_finalOperand b) (gx_constant x) (gx_newStack x) (gx_wordOperand x) (ge_oldValues e) (ge_tempValues e) (gd_disk d) (gd_roots d) (gd_table d) (gd_newTable d) (gd_placeUsed d) (gd_state d)
def lo_singleStep_98 (post : Int32 → SX → Prop) (x1 : Int32) (x3 : Int32) (z0 : Int32) (c : ty_C) (m : ty_M) (e : ty_E) (b : ty_B) (x : ty_X) (d : ty_D) : Prop := wX_singleStep_98 post x1 x3 z0 (gc_size c) (gm_status m) (gm_at m) (gm_stackSize m) (gm_returnSize m) (gm_inputSize m) (gm_outputSize m) (gb_blocks b) (gx_micros x) (gb_finals b) (gx_constants x) (gx_newSize x) (gx_taken x) (gx_peak x) (gx_temps x) (gd_root d) (gm_changedPages m) (gd_writesLeft d) (gd_broken d) (gc_ops c) (gc_numbers c) (gm_stack m) (gm_returns m) (gm_words m) (gm_inputs m) (gm_outs m) (gb_blockAt b) (gb_leads b) (gb_blockCost b) (gb_blockNeed b) (gb_blockPeak b) (gb_microFrom b) (gb_finalFrom b) (gb_blockNext b) (gb_blockTest b) (gb_blockTarget b) (gx_microOp x) (gx_microTarget x) (gx_microA x) (gx_microB x) (gb_microUsed b) (gb_finalOperand b) (gx_constant x) (gx_newStack x) (gx_wordOperand x) (ge_oldValues e) (ge_tempValues e) (gd_disk d) (gd_roots d) (gd_table d) (gd_newTable d) (gd_placeUsed d) (gd_state d)
def lo_singleStep_48 (post : Int32 → SX → Prop) (x1 : Int32) (c : ty_C) (m : ty_M) (e : ty_E) (b : ty_B) (x : ty_X) (d : ty_D) : Prop := wX_singleStep_48 post x1 (gc_size c) (gm_status m) (gm_at m) (gm_stackSize m) (gm_returnSize m) (gm_inputSize m) (gm_outputSize m) (gb_blocks b) (gx_micros x) (gb_finals b) (gx_constants x) (gx_newSize x) (gx_taken x) (gx_peak x) (gx_temps x) (gd_root d) (gm_changedPages m) (gd_writesLeft d) (gd_broken d) (gc_ops c) (gc_numbers c) (gm_stack m) (gm_returns m) (gm_words m) (gm_inputs m) (gm_outs m) (gb_blockAt b) (gb_leads b) (gb_blockCost b) (gb_blockNeed b) (gb_blockPeak b) (gb_microFrom b) (gb_finalFrom b) (gb_blockNext b) (gb_blockTest b) (gb_blockTarget b) (gx_microOp x) (gx_microTarget x) (gx_microA x) (gx_microB x) (gb_microUsed b) (gb_finalOperand b) (gx_constant x) (gx_newStack x) (gx_wordOperand x) (ge_oldValues e) (ge_tempValues e) (gd_disk d) (gd_roots d) (gd_table d) (gd_newTable d) (gd_placeUsed d) (gd_state d)
def lo_step_62 (post : Int32 → SX → Prop) (J25 : Int32 → SX → Prop) (x2 : Int32) (x3 : Int32) (z0 : Int32) (c : ty_C) (m : ty_M) (e : ty_E) (b : ty_B) (x : ty_X) (d : ty_D) : Prop := wX_step_62 post (fun y0 f_size f_status f_at f_stackSize f_returnSize f_inputSize f_outputSize f_blocks f_micros f_finals f_constants f_newSize f_taken f_peak f_temps f_root f_changedPages f_writesLeft f_broken a_ops a_numbers a_stack a_returns a_words a_inputs a_outs a_blockAt a_leads a_blockCost a_blockNeed a_blockPeak a_microFrom a_finalFrom a_blockNext a_blockTest a_blockTarget a_microOp a_microTarget a_microA a_microB a_microUsed a_finalOperand a_constant a_newStack a_wordOperand a_oldValues a_tempValues a_disk a_roots a_table a_newTable a_placeUsed a_state => J25 y0 (f_size, f_status, f_at, f_stackSize, f_returnSize, f_inputSize, f_outputSize, f_blocks, f_micros, f_finals, f_constants, f_newSize, f_taken, f_peak, f_temps, f_root, f_changedPages, f_writesLeft, f_broken, a_ops, a_numbers, a_stack, a_returns, a_words, a_inputs, a_outs, a_blockAt, a_leads, a_blockCost, a_blockNeed, a_blockPeak, a_microFrom, a_finalFrom, a_blockNext, a_blockTest, a_blockTarget, a_microOp, a_microTarget, a_microA, a_microB, a_microUsed, a_finalOperand, a_constant, a_newStack, a_wordOperand, a_oldValues, a_tempValues, a_disk, a_roots, a_table, a_newTable, a_placeUsed, a_state)) x2 x3 z0 (gc_size c) (gm_status m) (gm_at m) (gm_stackSize m) (gm_returnSize m) (gm_inputSize m) (gm_outputSize m) (gb_blocks b) (gx_micros x) (gb_finals b) (gx_constants x) (gx_newSize x) (gx_taken x) (gx_peak x) (gx_temps x) (gd_root d) (gm_changedPages m) (gd_writesLeft d) (gd_broken d) (gc_ops c) (gc_numbers c) (gm_stack m) (gm_returns m) (gm_words m) (gm_inputs m) (gm_outs m) (gb_blockAt b) (gb_leads b) (gb_blockCost b) (gb_blockNeed b) (gb_blockPeak b) (gb_microFrom b) (gb_finalFrom b) (gb_blockNext b) (gb_blockTest b) (gb_blockTarget b) (gx_microOp x) (gx_microTarget x) (gx_microA x) (gx_microB x) (gb_microUsed b) (gb_finalOperand b) (gx_constant x) (gx_newStack x) (gx_wordOperand x) (ge_oldValues e) (ge_tempValues e) (gd_disk d) (gd_roots d) (gd_table d) (gd_newTable d) (gd_placeUsed d) (gd_state d)
def lo_step_25 (post : Int32 → SX → Prop) (x2 : Int32) (n : Nat) (x3 : Int32) (c : ty_C) (m : ty_M) (e : ty_E) (b : ty_B) (x : ty_X) (d : ty_D) : Prop := wX_step_25 post x2 n x3 (gc_size c) (gm_status m) (gm_at m) (gm_stackSize m) (gm_returnSize m) (gm_inputSize m) (gm_outputSize m) (gb_blocks b) (gx_micros x) (gb_finals b) (gx_constants x) (gx_newSize x) (gx_taken x) (gx_peak x) (gx_temps x) (gd_root d) (gm_changedPages m) (gd_writesLeft d) (gd_broken d) (gc_ops c) (gc_numbers c) (gm_stack m) (gm_returns m) (gm_words m) (gm_inputs m) (gm_outs m) (gb_blockAt b) (gb_leads b) (gb_blockCost b) (gb_blockNeed b) (gb_blockPeak b) (gb_microFrom b) (gb_finalFrom b) (gb_blockNext b) (gb_blockTest b) (gb_blockTarget b) (gx_microOp x) (gx_microTarget x) (gx_microA x) (gx_microB x) (gb_microUsed b) (gb_finalOperand b) (gx_constant x) (gx_newStack x) (gx_wordOperand x) (ge_oldValues e) (ge_tempValues e) (gd_disk d) (gd_roots d) (gd_table d) (gd_newTable d) (gd_placeUsed d) (gd_state d)
def lo_unpackState_152 (post : SX → Prop) (n : Nat) (x1 : Int32) (c : ty_C) (m : ty_M) (e : ty_E) (b : ty_B) (x : ty_X) (d : ty_D) : Prop := wX_unpackState_152 post (gc_size c) (gm_status m) (gm_at m) (gm_stackSize m) (gm_returnSize m) (gm_inputSize m) (gm_outputSize m) (gb_blocks b) (gx_micros x) (gb_finals b) (gx_constants x) (gx_newSize x) (gx_taken x) (gx_peak x) (gx_temps x) (gd_root d) (gm_changedPages m) (gd_writesLeft d) (gd_broken d) n x1 (gc_ops c) (gc_numbers c) (gm_stack m) (gm_returns m) (gm_words m) (gm_inputs m) (gm_outs m) (gb_blockAt b) (gb_leads b) (gb_blockCost b) (gb_blockNeed b) (gb_blockPeak b) (gb_microFrom b) (gb_finalFrom b) (gb_blockNext b) (gb_blockTest b) (gb_blockTarget b) (gx_microOp x) (gx_microTarget x) (gx_microA x) (gx_microB x) (gb_microUsed b) (gb_finalOperand b) (gx_constant x) (gx_newStack x) (gx_wordOperand x) (ge_oldValues e) (ge_tempValues e) (gd_disk d) (gd_roots d) (gd_table d) (gd_newTable d) (gd_placeUsed d) (gd_state d)
def lo_unpackState_112 (post : SX → Prop) (n : Nat) (x1 : Int32) (c : ty_C) (m : ty_M) (e : ty_E) (b : ty_B) (x : ty_X) (d : ty_D) : Prop := wX_unpackState_112 post (gc_size c) (gm_status m) (gm_at m) (gm_stackSize m) (gm_returnSize m) (gm_inputSize m) (gm_outputSize m) (gb_blocks b) (gx_micros x) (gb_finals b) (gx_constants x) (gx_newSize x) (gx_taken x) (gx_peak x) (gx_temps x) (gd_root d) (gm_changedPages m) (gd_writesLeft d) (gd_broken d) n x1 (gc_ops c) (gc_numbers c) (gm_stack m) (gm_returns m) (gm_words m) (gm_inputs m) (gm_outs m) (gb_blockAt b) (gb_leads b) (gb_blockCost b) (gb_blockNeed b) (gb_blockPeak b) (gb_microFrom b) (gb_finalFrom b) (gb_blockNext b) (gb_blockTest b) (gb_blockTarget b) (gx_microOp x) (gx_microTarget x) (gx_microA x) (gx_microB x) (gb_microUsed b) (gb_finalOperand b) (gx_constant x) (gx_newStack x) (gx_wordOperand x) (ge_oldValues e) (ge_tempValues e) (gd_disk d) (gd_roots d) (gd_table d) (gd_newTable d) (gd_placeUsed d) (gd_state d)
def lo_unpackState_71 (post : SX → Prop) (n : Nat) (x1 : Int32) (c : ty_C) (m : ty_M) (e : ty_E) (b : ty_B) (x : ty_X) (d : ty_D) : Prop := wX_unpackState_71 post (gc_size c) (gm_status m) (gm_at m) (gm_stackSize m) (gm_returnSize m) (gm_inputSize m) (gm_outputSize m) (gb_blocks b) (gx_micros x) (gb_finals b) (gx_constants x) (gx_newSize x) (gx_taken x) (gx_peak x) (gx_temps x) (gd_root d) (gm_changedPages m) (gd_writesLeft d) (gd_broken d) n x1 (gc_ops c) (gc_numbers c) (gm_stack m) (gm_returns m) (gm_words m) (gm_inputs m) (gm_outs m) (gb_blockAt b) (gb_leads b) (gb_blockCost b) (gb_blockNeed b) (gb_blockPeak b) (gb_microFrom b) (gb_finalFrom b) (gb_blockNext b) (gb_blockTest b) (gb_blockTarget b) (gx_microOp x) (gx_microTarget x) (gx_microA x) (gx_microB x) (gb_microUsed b) (gb_finalOperand b) (gx_constant x) (gx_newStack x) (gx_wordOperand x) (ge_oldValues e) (ge_tempValues e) (gd_disk d) (gd_roots d) (gd_table d) (gd_newTable d) (gd_placeUsed d) (gd_state d)
def lo_unpackState_32 (post : SX → Prop) (n : Nat) (x1 : Int32) (c : ty_C) (m : ty_M) (e : ty_E) (b : ty_B) (x : ty_X) (d : ty_D) : Prop := wX_unpackState_32 post (gc_size c) (gm_status m) (gm_at m) (gm_stackSize m) (gm_returnSize m) (gm_inputSize m) (gm_outputSize m) (gb_blocks b) (gx_micros x) (gb_finals b) (gx_constants x) (gx_newSize x) (gx_taken x) (gx_peak x) (gx_temps x) (gd_root d) (gm_changedPages m) (gd_writesLeft d) (gd_broken d) n x1 (gc_ops c) (gc_numbers c) (gm_stack m) (gm_returns m) (gm_words m) (gm_inputs m) (gm_outs m) (gb_blockAt b) (gb_leads b) (gb_blockCost b) (gb_blockNeed b) (gb_blockPeak b) (gb_microFrom b) (gb_finalFrom b) (gb_blockNext b) (gb_blockTest b) (gb_blockTarget b) (gx_microOp x) (gx_microTarget x) (gx_microA x) (gx_microB x) (gb_microUsed b) (gb_finalOperand b) (gx_constant x) (gx_newStack x) (gx_wordOperand x) (ge_oldValues e) (ge_tempValues e) (gd_disk d) (gd_roots d) (gd_table d) (gd_newTable d) (gd_placeUsed d) (gd_state d)
def lo_isSound_15 (post : Int32 → Prop) (x2 : Int32) (n : Nat) (x3 : Int32) (x4 : Int32) (c : ty_C) (m : ty_M) (e : ty_E) (b : ty_B) (x : ty_X) (d : ty_D) : Prop := wX_isSound_15 post x2 (gc_size c) (gm_status m) (gm_at m) (gm_stackSize m) (gm_returnSize m) (gm_inputSize m) (gm_outputSize m) (gb_blocks b) (gx_micros x) (gb_finals b) (gx_constants x) (gx_newSize x) (gx_taken x) (gx_peak x) (gx_temps x) (gd_root d) (gm_changedPages m) (gd_writesLeft d) (gd_broken d) (gc_ops c) (gc_numbers c) (gm_stack m) (gm_returns m) (gm_words m) (gm_inputs m) (gm_outs m) (gb_blockAt b) (gb_leads b) (gb_blockCost b) (gb_blockNeed b) (gb_blockPeak b) (gb_microFrom b) (gb_finalFrom b) (gb_blockNext b) (gb_blockTest b) (gb_blockTarget b) (gx_microOp x) (gx_microTarget x) (gx_microA x) (gx_microB x) (gb_microUsed b) (gb_finalOperand b) (gx_constant x) (gx_newStack x) (gx_wordOperand x) (ge_oldValues e) (ge_tempValues e) (gd_disk d) (gd_roots d) (gd_table d) (gd_newTable d) (gd_placeUsed d) (gd_state d) n x3 x4
def lo_recover_93 (post : SX → Prop) (J58 : Int32 → SX → Prop) (x4 : Int32) (n : Nat) (x5 : Int32) (c : ty_C) (m : ty_M) (e : ty_E) (b : ty_B) (x : ty_X) (d : ty_D) : Prop := wX_recover_93 post (fun y0 a_ops a_numbers a_stack a_returns a_words a_inputs a_outs a_blockAt a_leads a_blockCost a_blockNeed a_blockPeak a_microFrom a_finalFrom a_blockNext a_blockTest a_blockTarget a_microOp a_microTarget a_microA a_microB a_microUsed a_finalOperand a_constant a_newStack a_wordOperand a_oldValues a_tempValues a_disk a_roots a_table a_newTable a_placeUsed a_state => J58 y0 (gc_size c, gm_status m, gm_at m, gm_stackSize m, gm_returnSize m, gm_inputSize m, gm_outputSize m, gb_blocks b, gx_micros x, gb_finals b, gx_constants x, gx_newSize x, gx_taken x, gx_peak x, gx_temps x, gd_root d, gm_changedPages m, gd_writesLeft d, gd_broken d, a_ops, a_numbers, a_stack, a_returns, a_words, a_inputs, a_outs, a_blockAt, a_leads, a_blockCost, a_blockNeed, a_blockPeak, a_microFrom, a_finalFrom, a_blockNext, a_blockTest, a_blockTarget, a_microOp, a_microTarget, a_microA, a_microB, a_microUsed, a_finalOperand, a_constant, a_newStack, a_wordOperand, a_oldValues, a_tempValues, a_disk, a_roots, a_table, a_newTable, a_placeUsed, a_state)) x4 (gc_size c) (gm_status m) (gm_at m) (gm_stackSize m) (gm_returnSize m) (gm_inputSize m) (gm_outputSize m) (gb_blocks b) (gx_micros x) (gb_finals b) (gx_constants x) (gx_newSize x) (gx_taken x) (gx_peak x) (gx_temps x) (gd_root d) (gm_changedPages m) (gd_writesLeft d) (gd_broken d) n x5 (gc_ops c) (gc_numbers c) (gm_stack m) (gm_returns m) (gm_words m) (gm_inputs m) (gm_outs m) (gb_blockAt b) (gb_leads b) (gb_blockCost b) (gb_blockNeed b) (gb_blockPeak b) (gb_microFrom b) (gb_finalFrom b) (gb_blockNext b) (gb_blockTest b) (gb_blockTarget b) (gx_microOp x) (gx_microTarget x) (gx_microA x) (gx_microB x) (gb_microUsed b) (gb_finalOperand b) (gx_constant x) (gx_newStack x) (gx_wordOperand x) (ge_oldValues e) (ge_tempValues e) (gd_disk d) (gd_roots d) (gd_table d) (gd_newTable d) (gd_placeUsed d) (gd_state d)
def lo_recover_58 (post : SX → Prop) (n : Nat) (x4 : Int32) (c : ty_C) (m : ty_M) (e : ty_E) (b : ty_B) (x : ty_X) (d : ty_D) : Prop := wX_recover_58 post (gc_size c) (gm_status m) (gm_at m) (gm_stackSize m) (gm_returnSize m) (gm_inputSize m) (gm_outputSize m) (gb_blocks b) (gx_micros x) (gb_finals b) (gx_constants x) (gx_newSize x) (gx_taken x) (gx_peak x) (gx_temps x) (gd_root d) (gm_changedPages m) (gd_writesLeft d) (gd_broken d) n x4 (gc_ops c) (gc_numbers c) (gm_stack m) (gm_returns m) (gm_words m) (gm_inputs m) (gm_outs m) (gb_blockAt b) (gb_leads b) (gb_blockCost b) (gb_blockNeed b) (gb_blockPeak b) (gb_microFrom b) (gb_finalFrom b) (gb_blockNext b) (gb_blockTest b) (gb_blockTarget b) (gx_microOp x) (gx_microTarget x) (gx_microA x) (gx_microB x) (gb_microUsed b) (gb_finalOperand b) (gx_constant x) (gx_newStack x) (gx_wordOperand x) (ge_oldValues e) (ge_tempValues e) (gd_disk d) (gd_roots d) (gd_table d) (gd_newTable d) (gd_placeUsed d) (gd_state d)
def lo_recover_41 (post : SX → Prop) (z0 : Int32) (c : ty_C) (m : ty_M) (e : ty_E) (b : ty_B) (x : ty_X) (d : ty_D) : Prop := wX_recover_41 post z0 (gc_size c) (gm_status m) (gm_at m) (gm_stackSize m) (gm_returnSize m) (gm_inputSize m) (gm_outputSize m) (gb_blocks b) (gx_micros x) (gb_finals b) (gx_constants x) (gx_newSize x) (gx_taken x) (gx_peak x) (gx_temps x) (gd_root d) (gm_changedPages m) (gd_writesLeft d) (gd_broken d) (gc_ops c) (gc_numbers c) (gm_stack m) (gm_returns m) (gm_words m) (gm_inputs m) (gm_outs m) (gb_blockAt b) (gb_leads b) (gb_blockCost b) (gb_blockNeed b) (gb_blockPeak b) (gb_microFrom b) (gb_finalFrom b) (gb_blockNext b) (gb_blockTest b) (gb_blockTarget b) (gx_microOp x) (gx_microTarget x) (gx_microA x) (gx_microB x) (gb_microUsed b) (gb_finalOperand b) (gx_constant x) (gx_newStack x) (gx_wordOperand x) (ge_oldValues e) (ge_tempValues e) (gd_disk d) (gd_roots d) (gd_table d) (gd_newTable d) (gd_placeUsed d) (gd_state d)
def lo_recover_40 (post : SX → Prop) (c : ty_C) (m : ty_M) (e : ty_E) (b : ty_B) (x : ty_X) (d : ty_D) : Prop := wX_recover_40 post (gc_size c) (gm_status m) (gm_at m) (gm_stackSize m) (gm_returnSize m) (gm_inputSize m) (gm_outputSize m) (gb_blocks b) (gx_micros x) (gb_finals b) (gx_constants x) (gx_newSize x) (gx_taken x) (gx_peak x) (gx_temps x) (gd_root d) (gm_changedPages m) (gd_writesLeft d) (gd_broken d) (gc_ops c) (gc_numbers c) (gm_stack m) (gm_returns m) (gm_words m) (gm_inputs m) (gm_outs m) (gb_blockAt b) (gb_leads b) (gb_blockCost b) (gb_blockNeed b) (gb_blockPeak b) (gb_microFrom b) (gb_finalFrom b) (gb_blockNext b) (gb_blockTest b) (gb_blockTarget b) (gx_microOp x) (gx_microTarget x) (gx_microA x) (gx_microB x) (gb_microUsed b) (gb_finalOperand b) (gx_constant x) (gx_newStack x) (gx_wordOperand x) (ge_oldValues e) (ge_tempValues e) (gd_disk d) (gd_roots d) (gd_table d) (gd_newTable d) (gd_placeUsed d) (gd_state d)
def lo_recover_36 (post : SX → Prop) (c : ty_C) (m : ty_M) (e : ty_E) (b : ty_B) (x : ty_X) (d : ty_D) : Prop := wX_recover_36 post (gc_size c) (gm_status m) (gm_at m) (gm_stackSize m) (gm_returnSize m) (gm_inputSize m) (gm_outputSize m) (gb_blocks b) (gx_micros x) (gb_finals b) (gx_constants x) (gx_newSize x) (gx_taken x) (gx_peak x) (gx_temps x) (gd_root d) (gm_changedPages m) (gd_writesLeft d) (gd_broken d) (gc_ops c) (gc_numbers c) (gm_stack m) (gm_returns m) (gm_words m) (gm_inputs m) (gm_outs m) (gb_blockAt b) (gb_leads b) (gb_blockCost b) (gb_blockNeed b) (gb_blockPeak b) (gb_microFrom b) (gb_finalFrom b) (gb_blockNext b) (gb_blockTest b) (gb_blockTarget b) (gx_microOp x) (gx_microTarget x) (gx_microA x) (gx_microB x) (gb_microUsed b) (gb_finalOperand b) (gx_constant x) (gx_newStack x) (gx_wordOperand x) (ge_oldValues e) (ge_tempValues e) (gd_disk d) (gd_roots d) (gd_table d) (gd_newTable d) (gd_placeUsed d) (gd_state d)
end
section
/-! the abstract machine: (position, stack, return positions, inputs, outputs, words); lists with their top first, inputs with their front first -/
abbrev am_T : Type := Nat × List Int32 × List Nat × List Int32 × List Int32 × (Nat → Int32)
def am_tk (op : Nat) : Nat := if op = 0 ∨ op = 16 ∨ op = 18 ∨ op = 20 ∨ op = 21 ∨ op = 22 ∨ op = 24 then 0 else if (3 ≤ op ∧ op ≤ 11) ∨ op = 15 then 2 else 1
def am_gv (op : Nat) : Nat := if op = 4 then 3 else if op = 2 ∨ op = 3 then 2 else if op = 0 ∨ (5 ≤ op ∧ op ≤ 14) ∨ op = 16 ∨ op = 22 then 1 else 0
def am_val (op : Nat) (b a : Int32) : Int32 :=
  if op = 5 then b + a else if op = 6 then b - a else if op = 7 then b * a
  else if op = 8 then (if a = 0 then 0 else b / a) else if op = 9 then (if a = 0 then 0 else b - b / a * a)
  else if op = 10 then (if a ≤ b then 0 else 1) else if op = 11 then (if b = a then 1 else 0)
  else if op = 12 then (if a = 0 then 1 else 0) else -a
def am_pu (op : Nat) (n a b : Int32) (I : List Int32) (W : Nat → Int32) : List Int32 :=
  if op = 0 then [n] else if op = 2 then [a, a] else if op = 3 then [b, a] else if op = 4 then [b, a, b]
  else if op = 14 then [W a.toNatClampNeg] else if op = 16 then [W n.toNatClampNeg] else if op = 22 then [I.headD 0]
  else if 5 ≤ op ∧ op ≤ 13 then [am_val op b a] else []
/-- what keeps an instruction from being done; 1 when nothing does -/
def am_hi (op : Nat) (A : am_T) : Int32 :=
  if A.2.1.length < am_tk op then 5
  else if (op = 8 ∨ op = 9) ∧ A.2.1.headD 0 = 0 then 6
  else if (op = 14 ∨ op = 15) ∧ ¬ (0 ≤ A.2.1.headD 0 ∧ A.2.1.headD 0 < 64) then 7
  else if op = 22 ∧ A.2.2.2.1.length = 0 then 3
  else if 16 < A.2.1.length - am_tk op + am_gv op ∨ (op = 20 ∧ 8 ≤ A.2.2.1.length) then 8
  else if op = 21 ∧ A.2.2.1.length = 0 then 9
  else if op = 23 ∧ 20 ≤ A.2.2.2.2.1.length then 10 else 1
def am_pc (op : Nat) (n a : Int32) (p : Nat) (R : List Nat) : Nat :=
  if op = 18 ∨ op = 20 then n.toNatClampNeg else if op = 19 then (if a = 0 then n.toNatClampNeg else p + 1)
  else if op = 21 then R.headD 0 else if op = 24 then p else p + 1
def am_go (op : Nat) (n : Int32) (A : am_T) : am_T :=
  (am_pc op n (A.2.1.headD 0) A.1 A.2.2.1,
   am_pu op n (A.2.1.headD 0) (A.2.1.tail.headD 0) A.2.2.2.1 A.2.2.2.2.2 ++ A.2.1.drop (am_tk op),
   (if op = 20 then (A.1 + 1) :: A.2.2.1 else if op = 21 then A.2.2.1.tail else A.2.2.1),
   (if op = 22 then A.2.2.2.1.tail else A.2.2.2.1),
   (if op = 23 then A.2.1.headD 0 :: A.2.2.2.2.1 else A.2.2.2.2.1),
   (if op = 15 then upd A.2.2.2.2.2 (A.2.1.headD 0).toNatClampNeg (A.2.1.tail.headD 0) else if op = 17 then upd A.2.2.2.2.2 n.toNatClampNeg (A.2.1.headD 0) else A.2.2.2.2.2))
def am_st (op : Nat) : Int32 := if op = 24 then 2 else 1
def am_ok (A : am_T) : Prop := A.1 ≤ 40 ∧ A.2.1.length ≤ 16 ∧ A.2.2.1.length ≤ 8 ∧ A.2.2.2.1.length ≤ 10 ∧ A.2.2.2.2.1.length ≤ 20 ∧ ∀ r, r ∈ A.2.2.1 → r ≤ 40
/-- a number that its operation may have -/
def am_num (op : Nat) (n : Int32) : Prop := (op = 16 ∨ op = 17 → ∃ j : Nat, j < 64 ∧ n = nI j) ∧ (op = 18 ∨ op = 19 ∨ op = 20 → ∃ j : Nat, j ≤ 40 ∧ n = nI j)
/-- a code: size, operations, numbers -/
def am_code (sz : Nat) (op : Nat → Nat) (num : Nat → Int32) : Prop := sz ≤ 40 ∧ ∀ i, i < sz → op i ≤ 24 ∧ am_num (op i) (num i)
/-- one instruction done, no halt -/
def am_s1 (sz : Nat) (op : Nat → Nat) (num : Nat → Int32) (A B : am_T) : Prop :=
  A.1 < sz ∧ am_hi (op A.1) A = 1 ∧ op A.1 ≠ 24 ∧ B = am_go (op A.1) (num A.1) A
def am_sN (sz : Nat) (op : Nat → Nat) (num : Nat → Int32) : Nat → am_T → am_T → Prop
  | 0, A, B => A = B
  | k + 1, A, B => ∃ C, am_sN sz op num k A C ∧ am_s1 sz op num C B
/-- at most g instructions: how many were done, the machine and the status in the end -/
def am_run (sz : Nat) (op : Nat → Nat) (num : Nat → Int32) : Nat → am_T → Nat × am_T × Int32
  | 0, A => (0, A, 1)
  | g + 1, A =>
    if sz ≤ A.1 then (0, A, 4)
    else if am_hi (op A.1) A ≠ 1 then (0, A, am_hi (op A.1) A)
    else if op A.1 = 24 then (1, am_go 24 (num A.1) A, 2)
    else ((am_run sz op num g (am_go (op A.1) (num A.1) A)).1 + 1, (am_run sz op num g (am_go (op A.1) (num A.1) A)).2)
theorem am_run_s1 {sz : Nat} {op : Nat → Nat} {num : Nat → Int32} {A B : am_T} (h : am_s1 sz op num A B) (g : Nat) :
    am_run sz op num (g + 1) A = ((am_run sz op num g B).1 + 1, (am_run sz op num g B).2) := by
  obtain ⟨h1, h2, h3, rfl⟩ := h
  rw [am_run, if_neg (by omega), if_neg (by rw [h2]; exact fun z => z rfl), if_neg h3]
theorem am_run_sN {sz : Nat} {op : Nat → Nat} {num : Nat → Int32} : ∀ (k : Nat) (A B : am_T), am_sN sz op num k A B → ∀ g,
    am_run sz op num (g + k) A = ((am_run sz op num g B).1 + k, (am_run sz op num g B).2) := by
  intro k
  induction k with
  | zero => intro A B h g; cases h; rfl
  | succ k ih =>
    intro A B ⟨C, hC, h1⟩ g
    have e : g + (k + 1) = (g + 1) + k := by omega
    rw [e, ih A C hC (g + 1), am_run_s1 h1 g]
    exact Prod.ext (by show _ + 1 + k = _ + (k + 1); omega) rfl
theorem am_run_le {sz : Nat} {op : Nat → Nat} {num : Nat → Int32} : ∀ (g : Nat) (A : am_T), (am_run sz op num g A).1 ≤ g := by
  intro g
  induction g with
  | zero => intro A; exact Nat.le_refl 0
  | succ g ih =>
    intro A
    rw [am_run]
    split
    · exact Nat.zero_le _
    · split
      · exact Nat.zero_le _
      · split
        · exact Nat.succ_le_succ (Nat.zero_le _)
        · exact Nat.succ_le_succ (ih _)
/-! lists laid in arrays -/
def sg_R (f : Nat → Int32) (k : Nat) : List Int32 → Prop
  | [] => True
  | v :: S => f (k + S.length) = v ∧ sg_R f k S
def qu_R (f : Nat → Int32) : Nat → List Int32 → Prop
  | _, [] => True
  | k, v :: I => f k = v ∧ qu_R f (k + 1) I
theorem sg_mv {f g : Nat → Int32} {k k' : Nat} : ∀ {S : List Int32}, (∀ i, i < S.length → g (k' + i) = f (k + i)) → sg_R f k S → sg_R g k' S := by
  intro S
  induction S with
  | nil => intro _ _; trivial
  | cons v S ih =>
    intro h hs
    refine ⟨?_, ih (fun i hi => h i (by rw [List.length_cons]; omega)) hs.2⟩
    rw [h S.length (by rw [List.length_cons]; omega)]
    exact hs.1
theorem sg_get {f : Nat → Int32} {k : Nat} : ∀ {S : List Int32} {i : Nat}, sg_R f k S → i < S.length → f (k + (S.length - 1 - i)) = S.getD i 0 := by
  intro S
  induction S with
  | nil => intro i _ hi; exact absurd hi (Nat.not_lt_zero i)
  | cons v S ih =>
    intro i hs hi
    cases i with
    | zero => exact hs.1
    | succ i =>
      have h := ih (i := i) hs.2 (by rw [List.length_cons] at hi; omega)
      rw [List.getD_cons_succ, ← h]
      exact congrArg f (by rw [List.length_cons] at hi ⊢; omega)
theorem sg_push {f g : Nat → Int32} {k k' : Nat} {v : Int32} {S : List Int32} (h : ∀ i, i < S.length → g (k' + i) = f (k + i)) (hv : g (k' + S.length) = v) (hs : sg_R f k S) : sg_R g k' (v :: S) := ⟨hv, sg_mv h hs⟩
theorem qu_mv {f g : Nat → Int32} : ∀ {I : List Int32} {k k' : Nat}, (∀ i, i < I.length → g (k' + i) = f (k + i)) → qu_R f k I → qu_R g k' I := by
  intro I
  induction I with
  | nil => intro _ _ _ _; trivial
  | cons v I ih =>
    intro k k' h hs
    refine ⟨(h 0 (by rw [List.length_cons]; omega)).trans hs.1, ih (fun i hi => ?_) hs.2⟩
    have e := h (i + 1) (by rw [List.length_cons]; omega)
    rw [show k' + 1 + i = k' + (i + 1) by omega, show k + 1 + i = k + (i + 1) by omega]
    exact e
theorem qu_get {f : Nat → Int32} : ∀ {I : List Int32} {k i : Nat}, qu_R f k I → i < I.length → f (k + i) = I.getD i 0 := by
  intro I
  induction I with
  | nil => intro k i _ hi; exact absurd hi (Nat.not_lt_zero i)
  | cons v I ih =>
    intro k i hs hi
    cases i with
    | zero => exact hs.1
    | succ i =>
      have h := ih (k := k + 1) (i := i) hs.2 (by rw [List.length_cons] at hi; omega)
      rw [List.getD_cons_succ, ← h]
      exact congrArg f (by omega)
theorem qu_app {f : Nat → Int32} {v : Int32} : ∀ {I : List Int32} {k : Nat}, qu_R f k I → f (k + I.length) = v → qu_R f k (I ++ [v]) := by
  intro I
  induction I with
  | nil => intro k _ h; exact ⟨h, trivial⟩
  | cons w I ih =>
    intro k hs h
    refine ⟨hs.1, ih hs.2 ?_⟩
    rw [← h]
    exact congrArg f (by rw [List.length_cons]; omega)
end
section
/-! the reference's row of numbers against the abstract machine -/
def ry_R (w : Nat → Int32) (st : Int32) (A : am_T) : Prop :=
  w 0 = nI A.1 ∧ w 1 = st ∧ w 2 = nI A.2.1.length ∧ w 3 = nI A.2.2.1.length ∧ w 4 = nI A.2.2.2.1.length ∧ w 5 = nI A.2.2.2.2.1.length ∧
  sg_R w 6 A.2.1 ∧ sg_R w 22 (A.2.2.1.map nI) ∧ qu_R w 30 A.2.2.2.1 ∧ sg_R w 40 A.2.2.2.2.1 ∧ ∀ i, i < 64 → w (60 + i) = A.2.2.2.2.2 i
section RY
variable {sz : Int32} {o nu w sv : Nat → Int32} {st : Int32} {p : Nat} {S : List Int32} {R : List Nat} {I O : List Int32} {W : Nat → Int32}
theorem ry_push (v : Int32) (hS : S.length < 16) (h : ry_R w st (p, S, R, I, O, W)) : ry_R (upd (upd w (6 + S.length) v) 2 (nI (S.length + 1))) st (p, v :: S, R, I, O, W) := by
  obtain ⟨h0, h1, h2, h3, h4, h5, hs, hr, hi, ho, hw⟩ := h
  dsimp only at h0 h1 h2 h3 h4 h5 hs hr hi ho hw
  refine ⟨?_, ?_, pk_us, ?_, ?_, ?_, sg_push (f := w) (k := 6) (fun i hi => ?_) ?_ hs, sg_mv (fun i hi => ?_) hr, qu_mv (fun i hi => ?_) hi, sg_mv (fun i hi => ?_) ho, fun i hi => ?_⟩ <;> (try dsimp only at *)
  · rw [pk_un (by omega), pk_un (by omega)]; exact h0
  · rw [pk_un (by omega), pk_un (by omega)]; exact h1
  · rw [pk_un (by omega), pk_un (by omega)]; exact h3
  · rw [pk_un (by omega), pk_un (by omega)]; exact h4
  · rw [pk_un (by omega), pk_un (by omega)]; exact h5
  · rw [pk_un (by omega), pk_un (by omega)]
  · rw [pk_un (by omega), pk_us]
  · rw [pk_un (by omega), pk_un (by omega)]
  · rw [pk_un (by omega), pk_un (by omega)]
  · rw [pk_un (by omega), pk_un (by omega)]
  · rw [pk_un (by omega), pk_un (by omega)]; exact hw i hi
theorem ry_pop {v : Int32} (h : ry_R w st (p, v :: S, R, I, O, W)) : ry_R (upd w 2 (nI S.length)) st (p, S, R, I, O, W) := by
  obtain ⟨h0, h1, h2, h3, h4, h5, hs, hr, hi, ho, hw⟩ := h
  dsimp only at h0 h1 h2 h3 h4 h5 hs hr hi ho hw
  refine ⟨?_, ?_, pk_us, ?_, ?_, ?_, sg_mv (fun i hi => ?_) hs.2, sg_mv (fun i hi => ?_) hr, qu_mv (fun i hi => ?_) hi, sg_mv (fun i hi => ?_) ho, fun i hi => ?_⟩ <;> (try dsimp only at *)
  · rw [pk_un (by omega)]; exact h0
  · rw [pk_un (by omega)]; exact h1
  · rw [pk_un (by omega)]; exact h3
  · rw [pk_un (by omega)]; exact h4
  · rw [pk_un (by omega)]; exact h5
  · rw [pk_un (by omega)]
  · rw [pk_un (by omega)]
  · rw [pk_un (by omega)]
  · rw [pk_un (by omega)]
  · rw [pk_un (by omega)]; exact hw i hi
theorem ry_pc (q : Nat) (h : ry_R w st (p, S, R, I, O, W)) : ry_R (upd w 0 (nI q)) st (q, S, R, I, O, W) := by
  obtain ⟨h0, h1, h2, h3, h4, h5, hs, hr, hi, ho, hw⟩ := h
  dsimp only at h0 h1 h2 h3 h4 h5 hs hr hi ho hw
  refine ⟨pk_us, ?_, ?_, ?_, ?_, ?_, sg_mv (fun i hi => ?_) hs, sg_mv (fun i hi => ?_) hr, qu_mv (fun i hi => ?_) hi, sg_mv (fun i hi => ?_) ho, fun i hi => ?_⟩ <;> (try dsimp only at *)
  · rw [pk_un (by omega)]; exact h1
  · rw [pk_un (by omega)]; exact h2
  · rw [pk_un (by omega)]; exact h3
  · rw [pk_un (by omega)]; exact h4
  · rw [pk_un (by omega)]; exact h5
  · rw [pk_un (by omega)]
  · rw [pk_un (by omega)]
  · rw [pk_un (by omega)]
  · rw [pk_un (by omega)]
  · rw [pk_un (by omega)]; exact hw i hi
theorem ry_st (s' : Int32) {A : am_T} (h : ry_R w st A) : ry_R (upd w 1 s') s' A := by
  obtain ⟨h0, h1, h2, h3, h4, h5, hs, hr, hi, ho, hw⟩ := h
  refine ⟨?_, pk_us, ?_, ?_, ?_, ?_, sg_mv (fun i hi => ?_) hs, sg_mv (fun i hi => ?_) hr, qu_mv (fun i hi => ?_) hi, sg_mv (fun i hi => ?_) ho, fun i hi => ?_⟩
  · rw [pk_un (by omega)]; exact h0
  · rw [pk_un (by omega)]; exact h2
  · rw [pk_un (by omega)]; exact h3
  · rw [pk_un (by omega)]; exact h4
  · rw [pk_un (by omega)]; exact h5
  · rw [pk_un (by omega)]
  · rw [pk_un (by omega)]
  · rw [pk_un (by omega)]
  · rw [pk_un (by omega)]
  · rw [pk_un (by omega)]; exact hw i hi
theorem ry_setw (a : Nat) (v : Int32) (ok : am_ok (p, S, R, I, O, W)) (h : ry_R w st (p, S, R, I, O, W)) : ry_R (upd w (60 + a) v) st (p, S, R, I, O, upd W a v) := by
  obtain ⟨h0, h1, h2, h3, h4, h5, hs, hr, hi, ho, hw⟩ := h
  obtain ⟨o0, o1, o2, o3, o4, o5⟩ := ok
  dsimp only at h0 h1 h2 h3 h4 h5 hs hr hi ho hw o0 o1 o2 o3 o4
  refine ⟨?_, ?_, ?_, ?_, ?_, ?_, sg_mv (fun i hi => ?_) hs, sg_mv (fun i hi => ?_) hr, qu_mv (fun i hi => ?_) hi, sg_mv (fun i hi => ?_) ho, fun i hi => ?_⟩ <;> (try dsimp only at *)
  · rw [pk_un (by omega)]; exact h0
  · rw [pk_un (by omega)]; exact h1
  · rw [pk_un (by omega)]; exact h2
  · rw [pk_un (by omega)]; exact h3
  · rw [pk_un (by omega)]; exact h4
  · rw [pk_un (by omega)]; exact h5
  · rw [pk_un (by omega)]
  · rw [List.length_map] at hi; rw [pk_un (by omega)]
  · rw [pk_un (by omega)]
  · rw [pk_un (by omega)]
  · by_cases e : i = a
    · subst e; rw [pk_us, pk_us]
    · rw [pk_un (by omega), pk_un e]; exact hw i hi
theorem ry_call (r : Nat) (hR : R.length < 8) (ok : am_ok (p, S, R, I, O, W)) (h : ry_R w st (p, S, R, I, O, W)) : ry_R (upd (upd w (22 + R.length) (nI r)) 3 (nI (R.length + 1))) st (p, S, r :: R, I, O, W) := by
  obtain ⟨h0, h1, h2, h3, h4, h5, hs, hr, hi, ho, hw⟩ := h
  obtain ⟨o0, o1, o2, o3, o4, o5⟩ := ok
  dsimp only at h0 h1 h2 h3 h4 h5 hs hr hi ho hw o0 o1 o2 o3 o4
  have em : (R.map nI).length = R.length := List.length_map _
  refine ⟨?_, ?_, ?_, pk_us, ?_, ?_, sg_mv (fun i hi => ?_) hs, sg_push (f := w) (k := 22) (fun i hi => ?_) ?_ hr, qu_mv (fun i hi => ?_) hi, sg_mv (fun i hi => ?_) ho, fun i hi => ?_⟩ <;> (try dsimp only at *)
  · rw [pk_un (by omega), pk_un (by omega)]; exact h0
  · rw [pk_un (by omega), pk_un (by omega)]; exact h1
  · rw [pk_un (by omega), pk_un (by omega)]; exact h2
  · rw [pk_un (by omega), pk_un (by omega)]; exact h4
  · rw [pk_un (by omega), pk_un (by omega)]; exact h5
  · rw [pk_un (by omega), pk_un (by omega)]
  · rw [pk_un (by omega), pk_un (by omega)]
  · rw [em, pk_un (by omega), pk_us]
  · rw [pk_un (by omega), pk_un (by omega)]
  · rw [pk_un (by omega), pk_un (by omega)]
  · rw [pk_un (by omega), pk_un (by omega)]; exact hw i hi
theorem ry_ret {r : Nat} (h : ry_R w st (p, S, r :: R, I, O, W)) : ry_R (upd w 3 (nI R.length)) st (p, S, R, I, O, W) := by
  obtain ⟨h0, h1, h2, h3, h4, h5, hs, hr, hi, ho, hw⟩ := h
  dsimp only at h0 h1 h2 h3 h4 h5 hs hr hi ho hw
  refine ⟨?_, ?_, ?_, pk_us, ?_, ?_, sg_mv (fun i hi => ?_) hs, sg_mv (fun i hi => ?_) hr.2, qu_mv (fun i hi => ?_) hi, sg_mv (fun i hi => ?_) ho, fun i hi => ?_⟩ <;> (try dsimp only at *)
  · rw [pk_un (by omega)]; exact h0
  · rw [pk_un (by omega)]; exact h1
  · rw [pk_un (by omega)]; exact h2
  · rw [pk_un (by omega)]; exact h4
  · rw [pk_un (by omega)]; exact h5
  · rw [pk_un (by omega)]
  · rw [pk_un (by omega)]
  · rw [pk_un (by omega)]
  · rw [pk_un (by omega)]
  · rw [pk_un (by omega)]; exact hw i hi
theorem ry_out (v : Int32) (hO : O.length < 20) (ok : am_ok (p, S, R, I, O, W)) (h : ry_R w st (p, S, R, I, O, W)) : ry_R (upd (upd w (40 + O.length) v) 5 (nI (O.length + 1))) st (p, S, R, I, v :: O, W) := by
  obtain ⟨h0, h1, h2, h3, h4, h5, hs, hr, hi, ho, hw⟩ := h
  obtain ⟨o0, o1, o2, o3, o4, o5⟩ := ok
  dsimp only at h0 h1 h2 h3 h4 h5 hs hr hi ho hw o0 o1 o2 o3 o4
  have em : (R.map nI).length = R.length := List.length_map _
  refine ⟨?_, ?_, ?_, ?_, ?_, pk_us, sg_mv (fun i hi => ?_) hs, sg_mv (fun i hi => ?_) hr, qu_mv (fun i hi => ?_) hi, sg_push (f := w) (k := 40) (fun i hi => ?_) ?_ ho, fun i hi => ?_⟩ <;> (try dsimp only at *)
  · rw [pk_un (by omega), pk_un (by omega)]; exact h0
  · rw [pk_un (by omega), pk_un (by omega)]; exact h1
  · rw [pk_un (by omega), pk_un (by omega)]; exact h2
  · rw [pk_un (by omega), pk_un (by omega)]; exact h3
  · rw [pk_un (by omega), pk_un (by omega)]; exact h4
  · rw [pk_un (by omega), pk_un (by omega)]
  · rw [pk_un (by omega), pk_un (by omega)]
  · rw [pk_un (by omega), pk_un (by omega)]
  · rw [pk_un (by omega), pk_un (by omega)]
  · rw [pk_un (by omega), pk_us]
  · rw [pk_un (by omega), pk_un (by omega)]; exact hw i hi
theorem ry_feed (v : Int32) (hI : I.length < 10) (ok : am_ok (p, S, R, I, O, W)) (h : ry_R w st (p, S, R, I, O, W)) : ry_R (upd (upd w (30 + I.length) v) 4 (nI (I.length + 1))) st (p, S, R, I ++ [v], O, W) := by
  obtain ⟨h0, h1, h2, h3, h4, h5, hs, hr, hi, ho, hw⟩ := h
  obtain ⟨o0, o1, o2, o3, o4, o5⟩ := ok
  dsimp only at h0 h1 h2 h3 h4 h5 hs hr hi ho hw o0 o1 o2 o3 o4
  have em : (R.map nI).length = R.length := List.length_map _
  refine ⟨?_, ?_, ?_, ?_, ?_, ?_, sg_mv (fun i hi => ?_) hs, sg_mv (fun i hi => ?_) hr, qu_app (qu_mv (fun i hi => ?_) hi) ?_, sg_mv (fun i hi => ?_) ho, fun i hi => ?_⟩ <;> (try dsimp only at *)
  · rw [pk_un (by omega), pk_un (by omega)]; exact h0
  · rw [pk_un (by omega), pk_un (by omega)]; exact h1
  · rw [pk_un (by omega), pk_un (by omega)]; exact h2
  · rw [pk_un (by omega), pk_un (by omega)]; exact h3
  · rw [pk_us, List.length_append]; rfl
  · rw [pk_un (by omega), pk_un (by omega)]; exact h5
  · rw [pk_un (by omega), pk_un (by omega)]
  · rw [pk_un (by omega), pk_un (by omega)]
  · rw [pk_un (by omega), pk_un (by omega)]
  · rw [pk_un (by omega), pk_us]
  · rw [pk_un (by omega), pk_un (by omega)]
  · rw [pk_un (by omega), pk_un (by omega)]; exact hw i hi
/-- the front of the inputs taken: the rest has moved down by one -/
theorem ry_in {v : Int32} {w' : Nat → Int32} (hI : (v :: I).length ≤ 10) (ok : am_ok (p, S, R, v :: I, O, W)) (h : ry_R w st (p, S, R, v :: I, O, W)) (h4' : w' 4 = nI I.length)
    (hsh : ∀ i, i < I.length → w' (30 + i) = w (31 + i)) (hk : ∀ j, j ≠ 4 → (j < 30 ∨ 40 ≤ j) → w' j = w j) : ry_R w' st (p, S, R, I, O, W) := by
  obtain ⟨h0, h1, h2, h3, h4, h5, hs, hr, hi, ho, hw⟩ := h
  obtain ⟨o0, o1, o2, o3, o4, o5⟩ := ok
  dsimp only at h0 h1 h2 h3 h4 h5 hs hr hi ho hw o0 o1 o2 o3 o4
  have em : (R.map nI).length = R.length := List.length_map _
  refine ⟨?_, ?_, ?_, ?_, h4', ?_, sg_mv (fun i hi => ?_) hs, sg_mv (fun i hi => ?_) hr, qu_mv (fun i hi => hsh i hi) hi.2, sg_mv (fun i hi => ?_) ho, fun i hi => ?_⟩ <;> (try dsimp only at *)
  · rw [hk _ (by omega) (by omega)]; exact h0
  · rw [hk _ (by omega) (by omega)]; exact h1
  · rw [hk _ (by omega) (by omega)]; exact h2
  · rw [hk _ (by omega) (by omega)]; exact h3
  · rw [hk _ (by omega) (by omega)]; exact h5
  · rw [hk _ (by omega) (by omega)]
  · rw [hk _ (by omega) (by omega)]
  · rw [hk _ (by omega) (by omega)]
  · rw [hk _ (by omega) (by omega)]; exact hw i hi
/-! the walks of the reference's small methods -/
theorem yw_push {post : SY → Prop} (v : Int32) (hS : S.length < 16) (h : ry_R w st (p, S, R, I, O, W)) (K : ∀ w', ry_R w' st (p, v :: S, R, I, O, W) → post (sz, o, nu, w', sv)) : wpY_push post (sz, o, nu, w, sv) v := by
  have h2 : w 2 = nI S.length := h.2.2.1
  have ea : 6 + w 2 = nI (6 + S.length) := by rw [h2]; exact nI_add 6 _
  refine And.intro (pk_in (6 + S.length) 124 (by omega) ea) (nm_r (e' := upd w (6 + S.length) v) (by rw [pk_cl (6 + S.length) ea]) (nm_r (e' := upd (upd w (6 + S.length) v) 2 (nI (S.length + 1))) ?_ ?_))
  · rw [pk_un (by omega), h2, nI_1]
  · exact K _ (ry_push v hS h)
theorem yw_pop {post : Int32 → SY → Prop} {a : Int32} (hS : S.length < 16) (h : ry_R w st (p, a :: S, R, I, O, W)) (K : ∀ w', ry_R w' st (p, S, R, I, O, W) → post a (sz, o, nu, w', sv)) : wpY_pop post (sz, o, nu, w, sv) := by
  have h2 : w 2 = nI (S.length + 1) := h.2.2.1
  have hs : w (6 + S.length) = a := h.2.2.2.2.2.2.1.1
  refine nm_r (e' := upd w 2 (nI S.length)) (by rw [h2, nI_pred]) ?_
  have ea : 6 + upd w 2 (nI S.length) 2 = nI (6 + S.length) := by rw [pk_us]; exact nI_add 6 _
  refine ⟨pk_in (6 + S.length) 124 (by omega) ea, ?_⟩
  have e : upd w 2 (nI S.length) (6 + upd w 2 (nI S.length) 2).toNatClampNeg = a := by
    rw [pk_cl (6 + S.length) ea, pk_un (by omega)]; exact hs
  rw [e]
  exact K _ (ry_pop h)
theorem yw_in20 {post : Int32 → SY → Prop} {v : Int32} {k : Nat} (hk : k ≤ 9) : ∀ (d i : Nat) (w0 : Nat → Int32), i + d = k → w0 4 = nI k →
    (∀ w', w' 4 = nI k → (∀ j, i ≤ j → j < k → w' (30 + j) = w0 (31 + j)) → (∀ j, (j < 30 + i ∨ 40 ≤ j) → w' j = w0 j) → post v (sz, o, nu, w', sv)) →
    wY_input_20 post v sz (d + 1) (nI i) o nu w0 sv := by
  intro d
  induction d with
  | zero =>
    intro i w0 hi h4 K
    refine br_t ?_ (K w0 h4 (fun j a b => by omega) (fun j _ => rfl))
    rw [h4]; exact nI_le (by omega) (by omega)
  | succ d ih =>
    intro i w0 hi h4 K
    have e31 : (31 : Int32) + nI i = nI (31 + i) := nI_add 31 i
    have e30 : (30 : Int32) + nI i = nI (30 + i) := nI_add 30 i
    refine br_f (by rw [h4]; exact nI_ge (by omega) (by omega)) ⟨pk_in (31 + i) 124 (by omega) e31, pk_in (30 + i) 124 (by omega) e30, nm_r (e' := upd w0 (30 + i) (w0 (31 + i))) (by rw [pk_cl (31 + i) e31, pk_cl (30 + i) e30]) (nm_r (e' := nI (i + 1)) (nI_1 i) ?_)⟩
    refine ih (i + 1) (upd w0 (30 + i) (w0 (31 + i))) (by omega) (by rw [pk_un (by omega)]; exact h4) ?_
    intro w' a b c
    refine K w' a (fun j p1 p2 => ?_) (fun j p1 => ?_)
    · by_cases e : j = i
      · subst e; rw [c _ (by omega), pk_us]
      · rw [b j (by omega) p2, pk_un (by omega)]
    · rw [c j (by omega), pk_un (by omega)]
theorem yw_in {post : Int32 → SY → Prop} {v : Int32} (ok : am_ok (p, S, R, v :: I, O, W)) (h : ry_R w st (p, S, R, v :: I, O, W)) (K : ∀ w', ry_R w' st (p, S, R, I, O, W) → post v (sz, o, nu, w', sv)) : wpY_input post (sz, o, nu, w, sv) := by
  have h4 : w 4 = nI (I.length + 1) := h.2.2.2.2.1
  have hv : w 30 = v := h.2.2.2.2.2.2.2.2.1.1
  have hI : I.length + 1 ≤ 10 := ok.2.2.2.1
  refine nm_r (e' := v) hv (nm_r (e' := upd w 4 (nI I.length)) (by rw [h4, nI_pred]) ⟨I.length + 1, ?_⟩)
  refine yw_in20 (k := I.length) (by omega) I.length 0 (upd w 4 (nI I.length)) (by omega) pk_us ?_
  intro w' a b c
  refine K w' (ry_in hI ok h a (fun i hi => ?_) (fun j hj hj2 => ?_))
  · rw [b i (by omega) hi, pk_un (by omega)]
  · rw [c j (by omega), pk_un hj]
end RY
end
section
/-! the reference's step -/
theorem am_pu_len {op : Nat} (h : op ≤ 24) (n a b : Int32) (I : List Int32) (W : Nat → Int32) : (am_pu op n a b I W).length = am_gv op := by
  have hc : op = 0 ∨ op = 1 ∨ op = 2 ∨ op = 3 ∨ op = 4 ∨ op = 5 ∨ op = 6 ∨ op = 7 ∨ op = 8 ∨ op = 9 ∨ op = 10 ∨ op = 11 ∨ op = 12 ∨ op = 13 ∨ op = 14 ∨ op = 15 ∨ op = 16 ∨ op = 17 ∨ op = 18 ∨ op = 19 ∨ op = 20 ∨ op = 21 ∨ op = 22 ∨ op = 23 ∨ op = 24 := by omega
  rcases hc with rfl | rfl | rfl | rfl | rfl | rfl | rfl | rfl | rfl | rfl | rfl | rfl | rfl | rfl | rfl | rfl | rfl | rfl | rfl | rfl | rfl | rfl | rfl | rfl | rfl <;> rfl
theorem am_gr : ∀ op, op < 25 → ((op = 0 ∨ op = 2 ∨ op = 4 ∨ op = 16 ∨ op = 22) ∧ am_gv op = am_tk op + 1) ∨ (¬ (op = 0 ∨ op = 2 ∨ op = 4 ∨ op = 16 ∨ op = 22) ∧ am_gv op ≤ am_tk op) := by decide +kernel
section YH
variable {sz : Int32} {o nu w sv : Nat → Int32} {st : Int32} {p : Nat} {S : List Int32} {R : List Nat} {I O : List Int32} {W : Nat → Int32}
theorem yh_takes {post : Int32 → Prop} {op : Nat} (hop : op ≤ 24) (h : post (nI (am_tk op))) : wpY_takes post (sz, o, nu, w, sv) (nI op) := by
  have hc : op = 0 ∨ op = 1 ∨ op = 2 ∨ op = 3 ∨ op = 4 ∨ op = 5 ∨ op = 6 ∨ op = 7 ∨ op = 8 ∨ op = 9 ∨ op = 10 ∨ op = 11 ∨ op = 12 ∨ op = 13 ∨ op = 14 ∨ op = 15 ∨ op = 16 ∨ op = 17 ∨ op = 18 ∨ op = 19 ∨ op = 20 ∨ op = 21 ∨ op = 22 ∨ op = 23 ∨ op = 24 := by omega
  rcases hc with rfl | rfl | rfl | rfl | rfl | rfl | rfl | rfl | rfl | rfl | rfl | rfl | rfl | rfl | rfl | rfl | rfl | rfl | rfl | rfl | rfl | rfl | rfl | rfl | rfl <;> (repeat (first | refine br_t (by decide) ?_ | refine br_f (by decide) ?_)) <;> exact h
theorem yh_174 {post : Int32 → Prop} {op : Nat} (hop : op ≤ 24) (h5 : w 5 = nI O.length) (hO : O.length ≤ 20) (h : post (if op = 23 ∧ 20 ≤ O.length then 10 else 1)) : wY_hindrance_174 post (nI op) sz o nu w sv := by
  refine pk_eq op 23 (fun e => ?_) (fun e => ?_)
  · refine pk_eq O.length 20 (fun z => ?_) (fun z => ?_) h5
    · rw [if_pos ⟨e, by omega⟩] at h; exact h
    · rw [if_neg (fun q => by omega)] at h; exact h
  · rw [if_neg (fun q => e q.1)] at h; exact h
theorem yh_156 {post : Int32 → Prop} {op : Nat} (hop : op ≤ 24) (h3 : w 3 = nI R.length) (hR : R.length ≤ 8) (h5 : w 5 = nI O.length) (hO : O.length ≤ 20) (h : post (if op = 21 ∧ R.length = 0 then 9 else if op = 23 ∧ 20 ≤ O.length then 10 else 1)) : wY_hindrance_156 post (nI op) sz o nu w sv := by
  refine pk_eq op 21 (fun e => ?_) (fun e => ?_)
  · refine pk_eq R.length 0 (fun z => ?_) (fun z => ?_) h3
    · rw [if_pos ⟨e, z⟩] at h; exact h
    · rw [if_neg (fun q => z q.2)] at h; exact yh_174 hop h5 hO h
  · rw [if_neg (fun q => e q.1)] at h; exact yh_174 hop h5 hO h
theorem yh_136 {post : Int32 → Prop} {op : Nat} (hop : op ≤ 24) (h3 : w 3 = nI R.length) (hR : R.length ≤ 8) (h5 : w 5 = nI O.length) (hO : O.length ≤ 20) (h : post (if op = 20 ∧ 8 ≤ R.length then 8 else if op = 21 ∧ R.length = 0 then 9 else if op = 23 ∧ 20 ≤ O.length then 10 else 1)) : wY_hindrance_136 post (nI op) sz o nu w sv := by
  refine pk_eq op 20 (fun e => ?_) (fun e => ?_)
  · refine pk_eq R.length 8 (fun z => ?_) (fun z => ?_) h3
    · rw [if_pos ⟨e, by omega⟩] at h; exact h
    · rw [if_neg (fun q => by omega)] at h; exact yh_156 hop h3 hR h5 hO h
  · rw [if_neg (fun q => e q.1)] at h; exact yh_156 hop h3 hR h5 hO h
theorem yh_89 {post : Int32 → Prop} {op : Nat} (hop : op ≤ 24) (h2 : w 2 = nI S.length) (hS : S.length ≤ 16) (ht : am_tk op ≤ S.length) (h3 : w 3 = nI R.length) (hR : R.length ≤ 8) (h5 : w 5 = nI O.length) (hO : O.length ≤ 20)
    (h : post (if 16 < S.length - am_tk op + am_gv op ∨ (op = 20 ∧ 8 ≤ R.length) then 8 else if op = 21 ∧ R.length = 0 then 9 else if op = 23 ∧ 20 ≤ O.length then 10 else 1)) : wY_hindrance_89 post (nI op) sz o nu w sv := by
  have hg := am_gr op (by omega)
  have h1 : (op = 0 ∨ op = 2 ∨ op = 4 ∨ op = 16 ∨ op = 22) → wY_hindrance_115 post (nI op) sz o nu w sv := by
    intro e
    have hg2 : am_gv op = am_tk op + 1 := by
      rcases hg with z | z
      · exact z.2
      · exact absurd e z.1
    refine br_f (by decide) ?_
    refine pk_eq S.length 16 (fun z => ?_) (fun z => ?_) h2
    · rw [if_pos (Or.inl (by omega))] at h; exact h
    · refine yh_136 hop h3 hR h5 hO ?_
      have e20 : ¬ op = 20 := by omega
      rw [if_neg (fun q => by omega)] at h
      rw [if_neg (fun q => e20 q.1)]; exact h
  have h0 : ¬ (op = 0 ∨ op = 2 ∨ op = 4 ∨ op = 16 ∨ op = 22) → wY_hindrance_120 post (nI op) 0 sz o nu w sv := by
    intro e
    have hg2 : am_gv op ≤ am_tk op := by
      rcases hg with z | z
      · exact absurd z.1 e
      · exact z.2
    refine br_t rfl (yh_136 hop h3 hR h5 hO ?_)
    by_cases z : op = 20 ∧ 8 ≤ R.length
    · rw [if_pos (Or.inr z)] at h; rw [if_pos z]; exact h
    · rw [if_neg (fun q => by omega)] at h; rw [if_neg z]; exact h
  refine pk_eq op 0 (fun e => h1 (by omega)) (fun e0 => pk_eq op 2 (fun e => h1 (by omega)) (fun e2 => pk_eq op 4 (fun e => h1 (by omega)) (fun e4 => pk_eq op 16 (fun e => h1 (by omega)) (fun e16 => pk_eq op 22 (fun e => h1 (by omega)) (fun e22 => h0 (by omega))))))
theorem yh_72 {post : Int32 → Prop} {op : Nat} (hop : op ≤ 24) (h2 : w 2 = nI S.length) (hS : S.length ≤ 16) (ht : am_tk op ≤ S.length) (h3 : w 3 = nI R.length) (hR : R.length ≤ 8) (h5 : w 5 = nI O.length) (hO : O.length ≤ 20) (h4 : w 4 = nI I.length) (hI : I.length ≤ 10)
    (h : post (if op = 22 ∧ I.length = 0 then 3 else if 16 < S.length - am_tk op + am_gv op ∨ (op = 20 ∧ 8 ≤ R.length) then 8 else if op = 21 ∧ R.length = 0 then 9 else if op = 23 ∧ 20 ≤ O.length then 10 else 1)) : wY_hindrance_72 post (nI op) sz o nu w sv := by
  refine pk_eq op 22 (fun e => ?_) (fun e => ?_)
  · refine pk_eq I.length 0 (fun z => ?_) (fun z => ?_) h4
    · rw [if_pos ⟨e, z⟩] at h; exact h
    · rw [if_neg (fun q => z q.2)] at h; exact yh_89 hop h2 hS ht h3 hR h5 hO h
  · rw [if_neg (fun q => e q.1)] at h; exact yh_89 hop h2 hS ht h3 hR h5 hO h
theorem yh_peek0 {post : Int32 → Prop} {a : Int32} {T : List Int32} (h2 : w 2 = nI (T.length + 1)) (hS : T.length < 16) (ha : w (6 + T.length) = a) (h : post a) : wpY_peek post (sz, o, nu, w, sv) 0 := by
  have e : (5 + w 2) - 0 = nI (6 + T.length) := by
    rw [h2, Int32.sub_zero, show (5 : Int32) = nI 5 from rfl, nI_add]; exact congrArg nI (by omega)
  refine And.intro (pk_in (6 + T.length) 124 (by omega) e) ?_
  rw [pk_cl (6 + T.length) e, ha]; exact h
theorem yh_main {post : Int32 → Prop} {op : Nat} (hop : op ≤ 24) (ok : am_ok (p, S, R, I, O, W)) (hr : ry_R w st (p, S, R, I, O, W)) (h : post (am_hi op (p, S, R, I, O, W))) : wpY_hindrance post (sz, o, nu, w, sv) (nI op) := by
  obtain ⟨h0, h1, h2, h3, h4, h5, hs, -, -, -, -⟩ := hr
  obtain ⟨-, o1, o2, o3, o4, -⟩ := ok
  dsimp only at h0 h1 h2 h3 h4 h5 hs o1 o2 o3 o4
  unfold wpY_hindrance; dsimp only
  refine yh_takes hop ?_
  have ht2 : am_tk op ≤ 2 := by unfold am_tk; (repeat' split) <;> omega
  unfold am_hi at h
  dsimp only at h
  refine pk_le (am_tk op) S.length (fun hle => ?_) (fun hlt => ?_) rfl h2
  · rw [if_neg (show ¬ S.length < am_tk op by omega)] at h
    -- the 8 and 9, then the 14 and 15
    have h39 : ∀ (hz : ¬ ((op = 8 ∨ op = 9) ∧ S.headD 0 = 0)), wY_hindrance_39 post (nI op) sz o nu w sv := by
      intro hz
      rw [if_neg hz] at h
      have h51 : (op = 14 ∨ op = 15) → wY_hindrance_51 post (nI op) sz o nu w sv := by
        intro e
        have hl : 0 < S.length := by
          have : 1 ≤ am_tk op := by rcases e with rfl | rfl <;> decide
          omega
        obtain ⟨a, T, rfl⟩ : ∃ a T, S = a :: T := by
          cases S with
          | nil => exact absurd hl (by decide)
          | cons a T => exact ⟨a, T, rfl⟩
        have hT : T.length < 16 := by rw [List.length_cons] at o1; omega
        refine yh_peek0 h2 hT hs.1 (br_c (fun z => ?_) (fun z => yh_peek0 h2 hT hs.1 (br_c (fun y => ?_) (fun y => ?_))))
        · rw [if_pos ⟨e, fun q => (Int32.not_lt.mpr q.1) z⟩] at h; exact h
        · have h64 : a < 64 := by
            have hy := Int32.le_iff_toInt_le.mp y
            apply Int32.lt_iff_toInt_lt.mpr
            rw [show (64 : Int32).toInt = 64 from by decide]
            rw [show (63 : Int32).toInt = 63 from by decide] at hy
            omega
          rw [if_neg (fun q => q.2 ⟨Int32.not_lt.mp z, h64⟩)] at h
          exact yh_72 hop h2 o1 hle h3 o2 h5 o4 h4 o3 h
        · have h64 : ¬ a < 64 := by
            intro q
            apply y
            have hy := Int32.lt_iff_toInt_lt.mp q
            apply Int32.le_iff_toInt_le.mpr
            rw [show (63 : Int32).toInt = 63 from by decide]
            rw [show (64 : Int32).toInt = 64 from by decide] at hy
            omega
          rw [if_pos ⟨e, fun q => h64 q.2⟩] at h
          exact h
      refine pk_eq op 14 (fun e => h51 (Or.inl e)) (fun e14 => pk_eq op 15 (fun e => h51 (Or.inr e)) (fun e15 => ?_))
      rw [if_neg (fun q => by omega)] at h
      exact yh_72 hop h2 o1 hle h3 o2 h5 o4 h4 o3 h
    have h28 : (op = 8 ∨ op = 9) → wY_hindrance_28 post (nI op) sz o nu w sv := by
      intro e
      have hl : 0 < S.length := by
        have : 2 ≤ am_tk op := by rcases e with rfl | rfl <;> decide
        omega
      obtain ⟨a, T, rfl⟩ : ∃ a T, S = a :: T := by
        cases S with
        | nil => exact absurd hl (by decide)
        | cons a T => exact ⟨a, T, rfl⟩
      have hT : T.length < 16 := by rw [List.length_cons] at o1; omega
      refine yh_peek0 h2 hT hs.1 (br_c (fun z => ?_) (fun z => ?_))
      · rw [if_pos ⟨e, z⟩] at h; exact h
      · exact h39 (fun q => z q.2)
    exact pk_eq op 8 (fun e => h28 (Or.inl e)) (fun e8 => pk_eq op 9 (fun e => h28 (Or.inr e)) (fun e9 => h39 (fun q => by omega)))
  · rw [if_pos hlt] at h; exact h
end YH
section YC
variable {sz : Int32} {o nu w sv : Nat → Int32} {st : Int32} {p : Nat} {S : List Int32} {R : List Nat} {I O : List Int32} {W : Nat → Int32}
theorem yc_comb {post : Int32 → Prop} {op : Nat} {a b : Int32} (h1 : 5 ≤ op) (h2 : op ≤ 11) (hz : op = 8 ∨ op = 9 → ¬ a = 0) (h : post (am_val op b a)) : wpY_combined post (sz, o, nu, w, sv) (nI op) b a := by
  have hc : op = 5 ∨ op = 6 ∨ op = 7 ∨ op = 8 ∨ op = 9 ∨ op = 10 ∨ op = 11 := by omega
  rcases hc with rfl | rfl | rfl | rfl | rfl | rfl | rfl
  · (repeat (first | refine br_t (by decide) ?_ | refine br_f (by decide) ?_)); exact h
  · (repeat (first | refine br_t (by decide) ?_ | refine br_f (by decide) ?_)); exact h
  · (repeat (first | refine br_t (by decide) ?_ | refine br_f (by decide) ?_)); exact h
  · have z := hz (Or.inl rfl)
    (repeat (first | refine br_t (by decide) ?_ | refine br_f (by decide) ?_)); refine br_f z (br_t rfl ⟨z, ?_⟩)
    have e : am_val 8 b a = b / a := by show (if a = 0 then 0 else b / a) = _; rw [if_neg z]
    rw [← e]; exact h
  · have z := hz (Or.inr rfl)
    (repeat (first | refine br_t (by decide) ?_ | refine br_f (by decide) ?_)); refine br_f z (br_f (by decide) ⟨z, ?_⟩)
    have e : am_val 9 b a = b - b / a * a := by show (if a = 0 then 0 else b - b / a * a) = _; rw [if_neg z]
    rw [← e]; exact h
  · (repeat (first | refine br_t (by decide) ?_ | refine br_f (by decide) ?_))
    have e : am_val 10 b a = if a ≤ b then 0 else 1 := rfl
    rw [e] at h
    exact br_c (fun z => by rw [if_pos z] at h; exact h) (fun z => by rw [if_neg z] at h; exact h)
  · (repeat (first | refine br_t (by decide) ?_ | refine br_f (by decide) ?_))
    have e : am_val 11 b a = if b = a then 1 else 0 := rfl
    rw [e] at h
    exact br_c (fun z => by rw [if_pos z] at h; exact h) (fun z => by rw [if_neg z] at h; exact h)
end YC
end
section
/-- nothing keeps the instruction from being done -/
def am_can (op : Nat) (A : am_T) : Prop := am_tk op ≤ A.2.1.length ∧ (op = 8 ∨ op = 9 → ¬ A.2.1.headD 0 = 0) ∧ (op = 14 ∨ op = 15 → 0 ≤ A.2.1.headD 0 ∧ A.2.1.headD 0 < 64) ∧
  (op = 22 → ¬ A.2.2.2.1.length = 0) ∧ A.2.1.length - am_tk op + am_gv op ≤ 16 ∧ (op = 20 → A.2.2.1.length < 8) ∧ (op = 21 → ¬ A.2.2.1.length = 0) ∧ (op = 23 → A.2.2.2.2.1.length < 20)
theorem am_hi_can {op : Nat} {A : am_T} (h : am_hi op A = 1) : am_can op A := by
  unfold am_hi at h
  by_cases c1 : A.2.1.length < am_tk op
  · rw [if_pos c1] at h; exact absurd h (by decide)
  rw [if_neg c1] at h
  by_cases c2 : (op = 8 ∨ op = 9) ∧ A.2.1.headD 0 = 0
  · rw [if_pos c2] at h; exact absurd h (by decide)
  rw [if_neg c2] at h
  by_cases c3 : (op = 14 ∨ op = 15) ∧ ¬ (0 ≤ A.2.1.headD 0 ∧ A.2.1.headD 0 < 64)
  · rw [if_pos c3] at h; exact absurd h (by decide)
  rw [if_neg c3] at h
  by_cases c4 : op = 22 ∧ A.2.2.2.1.length = 0
  · rw [if_pos c4] at h; exact absurd h (by decide)
  rw [if_neg c4] at h
  by_cases c5 : 16 < A.2.1.length - am_tk op + am_gv op ∨ (op = 20 ∧ 8 ≤ A.2.2.1.length)
  · rw [if_pos c5] at h; exact absurd h (by decide)
  rw [if_neg c5] at h
  by_cases c6 : op = 21 ∧ A.2.2.1.length = 0
  · rw [if_pos c6] at h; exact absurd h (by decide)
  rw [if_neg c6] at h
  by_cases c7 : op = 23 ∧ 20 ≤ A.2.2.2.2.1.length
  · rw [if_pos c7] at h; exact absurd h (by decide)
  exact ⟨by omega, fun e z => c2 ⟨e, z⟩, fun e => Classical.byContradiction (fun z => c3 ⟨e, z⟩), fun e z => c4 ⟨e, z⟩, by omega, fun e => by omega, fun e z => c6 ⟨e, z⟩, fun e => by omega⟩
theorem am_can_hi {op : Nat} {A : am_T} (h : am_can op A) : am_hi op A = 1 := by
  obtain ⟨h1, h2, h3, h4, h5, h6, h7, h8⟩ := h
  unfold am_hi
  rw [if_neg (by omega), if_neg (fun q => h2 q.1 q.2), if_neg (fun q => q.2 (h3 q.1)), if_neg (fun q => h4 q.1 q.2), if_neg (fun q => by omega), if_neg (fun q => h7 q.1 q.2), if_neg (fun q => by omega)]
theorem am_ok_go {op : Nat} {n : Int32} {sz : Nat} {A : am_T} (hop : op ≤ 24) (hn : am_num op n) (hp : A.1 < sz) (hsz : sz ≤ 40) (ok : am_ok A) (hc : am_can op A) : am_ok (am_go op n A) := by
  obtain ⟨p, S, R, I, O, W⟩ := A
  obtain ⟨o0, o1, o2, o3, o4, o5⟩ := ok
  obtain ⟨h1, h2, h3, h4, h5, h6, h7, h8⟩ := hc
  dsimp only at *
  refine ⟨?_, ?_, ?_, ?_, ?_, ?_⟩
  · show am_pc op n (S.headD 0) p R ≤ 40
    unfold am_pc
    have hj : op = 18 ∨ op = 19 ∨ op = 20 → n.toNatClampNeg ≤ 40 := by
      intro e
      obtain ⟨j, hj, rfl⟩ := hn.2 e
      rw [nI_clamp (by omega)]; exact hj
    split
    · exact hj (by omega)
    · split
      · split
        · exact hj (by omega)
        · omega
      · split
        · cases R with
          | nil => exact Nat.zero_le _
          | cons r R => exact o5 r (List.mem_cons_self ..)
        · split <;> omega
  · show (_ ++ S.drop (am_tk op)).length ≤ 16
    rw [List.length_append, am_pu_len hop, List.length_drop]; omega
  · show (if op = 20 then (p + 1) :: R else if op = 21 then R.tail else R).length ≤ 8
    split
    · rw [List.length_cons]; have := h6 (by assumption); omega
    · split
      · rw [List.length_tail]; omega
      · exact o2
  · show (if op = 22 then I.tail else I).length ≤ 10
    split
    · rw [List.length_tail]; omega
    · exact o3
  · show (if op = 23 then S.headD 0 :: O else O).length ≤ 20
    split
    · rw [List.length_cons]; have := h8 (by assumption); omega
    · exact o4
  · show ∀ r, r ∈ (if op = 20 then (p + 1) :: R else if op = 21 then R.tail else R) → r ≤ 40
    intro r hr
    split at hr
    · rcases List.mem_cons.mp hr with rfl | hr
      · omega
      · exact o5 r hr
    · split at hr
      · exact o5 r (List.mem_of_mem_tail hr)
      · exact o5 r hr
theorem li_1 {S : List Int32} (h : 1 ≤ S.length) : ∃ a T, S = a :: T := by
  cases S with
  | nil => exact absurd h (by decide)
  | cons a T => exact ⟨a, T, rfl⟩
theorem li_2 {S : List Int32} (h : 2 ≤ S.length) : ∃ a b T, S = a :: b :: T := by
  cases S with
  | nil => exact absurd h (by decide)
  | cons a T =>
    cases T with
    | nil => rw [List.length_cons, List.length_nil] at h; omega
    | cons b T => exact ⟨a, b, T, rfl⟩
section YK
variable {sz : Int32} {o nu w sv : Nat → Int32} {st : Int32} {p : Nat} {S : List Int32} {R : List Nat} {I O : List Int32} {W : Nat → Int32} {post : SY → Prop} {n : Int32}
theorem yk_x (h : ry_R w st (p, S, R, I, O, W)) : w 0 + 1 = nI (p + 1) := by rw [h.1]; exact nI_1 p
theorem yk_0 (hr : ry_R w 1 (p, S, R, I, O, W)) (hS : S.length < 16) (K : ∀ w', ry_R w' 1 (p + 1, n :: S, R, I, O, W) → post (sz, o, nu, w', sv)) : wpY_carryOut post (sz, o, nu, w, sv) (nI 0) n := by
  refine nm_r (e' := nI (p + 1)) (yk_x hr) ?_
  (repeat (first | refine br_t (by decide) ?_ | refine br_f (by decide) ?_))
  refine yw_push n hS hr (fun w1 h1 => nm_e ?_)
  exact K _ (ry_pc (p + 1) h1)
theorem yk_1 {a : Int32} (hr : ry_R w 1 (p, a :: S, R, I, O, W)) (hS : S.length < 16) (K : ∀ w', ry_R w' 1 (p + 1, S, R, I, O, W) → post (sz, o, nu, w', sv)) : wpY_carryOut post (sz, o, nu, w, sv) (nI 1) n := by
  refine nm_r (e' := nI (p + 1)) (yk_x hr) ?_
  (repeat (first | refine br_t (by decide) ?_ | refine br_f (by decide) ?_))
  refine yw_pop hS hr (fun w1 h1 => ?_)
  (repeat (first | refine br_t (by decide) ?_ | refine br_f (by decide) ?_))
  exact nm_e (K _ (ry_pc (p + 1) h1))
theorem yk_2 {a : Int32} (hr : ry_R w 1 (p, a :: S, R, I, O, W)) (hS : S.length < 15) (K : ∀ w', ry_R w' 1 (p + 1, a :: a :: S, R, I, O, W) → post (sz, o, nu, w', sv)) : wpY_carryOut post (sz, o, nu, w, sv) (nI 2) n := by
  refine nm_r (e' := nI (p + 1)) (yk_x hr) ?_
  (repeat (first | refine br_t (by decide) ?_ | refine br_f (by decide) ?_))
  refine yw_pop (by omega) hr (fun w1 h1 => ?_)
  (repeat (first | refine br_t (by decide) ?_ | refine br_f (by decide) ?_))
  refine yw_push a (by omega) h1 (fun w2 h2 => ?_)
  refine yw_push a (by rw [List.length_cons]; omega) h2 (fun w3 h3 => ?_)
  exact nm_e (K _ (ry_pc (p + 1) h3))
theorem yk_3 {a b : Int32} (hr : ry_R w 1 (p, a :: b :: S, R, I, O, W)) (hS : S.length < 15) (K : ∀ w', ry_R w' 1 (p + 1, b :: a :: S, R, I, O, W) → post (sz, o, nu, w', sv)) : wpY_carryOut post (sz, o, nu, w, sv) (nI 3) n := by
  refine nm_r (e' := nI (p + 1)) (yk_x hr) ?_
  (repeat (first | refine br_t (by decide) ?_ | refine br_f (by decide) ?_))
  refine yw_pop (by rw [List.length_cons]; omega) hr (fun w1 h1 => ?_)
  (repeat (first | refine br_t (by decide) ?_ | refine br_f (by decide) ?_))
  refine yw_pop (by omega) h1 (fun w2 h2 => ?_)
  (repeat (first | refine br_t (by decide) ?_ | refine br_f (by decide) ?_))
  refine yw_push a (by omega) h2 (fun w3 h3 => ?_)
  (repeat (first | refine br_t (by decide) ?_ | refine br_f (by decide) ?_))
  refine yw_push b (by rw [List.length_cons]; omega) h3 (fun w4 h4 => ?_)
  (repeat (first | refine br_t (by decide) ?_ | refine br_f (by decide) ?_))
  exact nm_e (K _ (ry_pc (p + 1) h4))
theorem yk_4 {a b : Int32} (hr : ry_R w 1 (p, a :: b :: S, R, I, O, W)) (hS : S.length < 14) (K : ∀ w', ry_R w' 1 (p + 1, b :: a :: b :: S, R, I, O, W) → post (sz, o, nu, w', sv)) : wpY_carryOut post (sz, o, nu, w, sv) (nI 4) n := by
  refine nm_r (e' := nI (p + 1)) (yk_x hr) ?_
  (repeat (first | refine br_t (by decide) ?_ | refine br_f (by decide) ?_))
  refine yw_pop (by rw [List.length_cons]; omega) hr (fun w1 h1 => ?_)
  (repeat (first | refine br_t (by decide) ?_ | refine br_f (by decide) ?_))
  refine yw_pop (by omega) h1 (fun w2 h2 => ?_)
  (repeat (first | refine br_t (by decide) ?_ | refine br_f (by decide) ?_))
  refine yw_push b (by omega) h2 (fun w3 h3 => ?_)
  (repeat (first | refine br_t (by decide) ?_ | refine br_f (by decide) ?_))
  refine yw_push a (by rw [List.length_cons]; omega) h3 (fun w4 h4 => ?_)
  (repeat (first | refine br_t (by decide) ?_ | refine br_f (by decide) ?_))
  refine yw_push b (by rw [List.length_cons, List.length_cons]; omega) h4 (fun w5 h5 => ?_)
  exact nm_e (K _ (ry_pc (p + 1) h5))
theorem yk_5 {a b : Int32} {op : Nat} (h5 : 5 ≤ op) (h11 : op ≤ 11) (hz : op = 8 ∨ op = 9 → ¬ a = 0) (hr : ry_R w 1 (p, a :: b :: S, R, I, O, W)) (hS : S.length < 15) (K : ∀ w', ry_R w' 1 (p + 1, am_val op b a :: S, R, I, O, W) → post (sz, o, nu, w', sv)) : wpY_carryOut post (sz, o, nu, w, sv) (nI op) n := by
  refine nm_r (e' := nI (p + 1)) (yk_x hr) ?_
  have hc : op = 5 ∨ op = 6 ∨ op = 7 ∨ op = 8 ∨ op = 9 ∨ op = 10 ∨ op = 11 := by omega
  rcases hc with rfl | rfl | rfl | rfl | rfl | rfl | rfl <;> (
    (repeat (first | refine br_t (by decide) ?_ | refine br_f (by decide) ?_))
    refine yw_pop (by rw [List.length_cons]; omega) hr (fun w1 h1 => ?_)
    (repeat (first | refine br_t (by decide) ?_ | refine br_f (by decide) ?_))
    refine yw_pop (by omega) h1 (fun w2 h2 => ?_)
    refine yc_comb h5 h11 hz ?_
    refine yw_push _ (by omega) h2 (fun w3 h3 => nm_e ?_)
    exact K _ (ry_pc (p + 1) h3))
theorem yk_12 {a : Int32} (hr : ry_R w 1 (p, a :: S, R, I, O, W)) (hS : S.length < 16) (K : ∀ w', ry_R w' 1 (p + 1, am_val 12 0 a :: S, R, I, O, W) → post (sz, o, nu, w', sv)) : wpY_carryOut post (sz, o, nu, w, sv) (nI 12) n := by
  have e : am_val 12 0 a = if a = 0 then 1 else 0 := rfl
  rw [e] at K
  refine nm_r (e' := nI (p + 1)) (yk_x hr) ?_
  (repeat (first | refine br_t (by decide) ?_ | refine br_f (by decide) ?_))
  refine yw_pop hS hr (fun w1 h1 => ?_)
  (repeat (first | refine br_t (by decide) ?_ | refine br_f (by decide) ?_))
  refine br_c (fun z => ?_) (fun z => ?_)
  · rw [if_pos z] at K
    exact yw_push 1 hS h1 (fun w2 h2 => nm_e (K _ (ry_pc (p + 1) h2)))
  · rw [if_neg z] at K
    exact yw_push 0 hS h1 (fun w2 h2 => nm_e (K _ (ry_pc (p + 1) h2)))
theorem yk_13 {a : Int32} (hr : ry_R w 1 (p, a :: S, R, I, O, W)) (hS : S.length < 16) (K : ∀ w', ry_R w' 1 (p + 1, (-a) :: S, R, I, O, W) → post (sz, o, nu, w', sv)) : wpY_carryOut post (sz, o, nu, w, sv) (nI 13) n := by
  refine nm_r (e' := nI (p + 1)) (yk_x hr) ?_
  (repeat (first | refine br_t (by decide) ?_ | refine br_f (by decide) ?_))
  refine yw_pop hS hr (fun w1 h1 => ?_)
  (repeat (first | refine br_t (by decide) ?_ | refine br_f (by decide) ?_))
  exact yw_push (-a) hS h1 (fun w2 h2 => nm_e (K _ (ry_pc (p + 1) h2)))
theorem yk_14 {a : Nat} (ha : a < 64) (hr : ry_R w 1 (p, nI a :: S, R, I, O, W)) (hS : S.length < 16) (K : ∀ w', ry_R w' 1 (p + 1, W a :: S, R, I, O, W) → post (sz, o, nu, w', sv)) : wpY_carryOut post (sz, o, nu, w, sv) (nI 14) n := by
  refine nm_r (e' := nI (p + 1)) (yk_x hr) ?_
  (repeat (first | refine br_t (by decide) ?_ | refine br_f (by decide) ?_))
  refine yw_pop hS hr (fun w1 h1 => ?_)
  (repeat (first | refine br_t (by decide) ?_ | refine br_f (by decide) ?_))
  have ea : (60 : Int32) + nI a = nI (60 + a) := nI_add 60 a
  refine ⟨pk_in (60 + a) 124 (by omega) ea, ?_⟩
  refine yw_push _ hS h1 (fun w2 h2 => nm_e ?_)
  rw [pk_cl (60 + a) ea, h1.2.2.2.2.2.2.2.2.2.2 a ha] at h2
  exact K _ (ry_pc (p + 1) h2)
theorem yk_15 {a : Nat} {b : Int32} (ha : a < 64) (ok : am_ok (p, S, R, I, O, W)) (hr : ry_R w 1 (p, nI a :: b :: S, R, I, O, W)) (hS : S.length < 15) (K : ∀ w', ry_R w' 1 (p + 1, S, R, I, O, upd W a b) → post (sz, o, nu, w', sv)) : wpY_carryOut post (sz, o, nu, w, sv) (nI 15) n := by
  refine nm_r (e' := nI (p + 1)) (yk_x hr) ?_
  (repeat (first | refine br_t (by decide) ?_ | refine br_f (by decide) ?_))
  refine yw_pop (by rw [List.length_cons]; omega) hr (fun w1 h1 => ?_)
  (repeat (first | refine br_t (by decide) ?_ | refine br_f (by decide) ?_))
  refine yw_pop (by omega) h1 (fun w2 h2 => ?_)
  have ea : (60 : Int32) + nI a = nI (60 + a) := nI_add 60 a
  refine ⟨pk_in (60 + a) 124 (by omega) ea, nm_r (e' := upd w2 (60 + a) b) (by rw [pk_cl (60 + a) ea]) (nm_e ?_)⟩
  exact K _ (ry_pc (p + 1) (ry_setw a b ok h2))
theorem yk_16 {a : Nat} (ha : a < 64) (hr : ry_R w 1 (p, S, R, I, O, W)) (hS : S.length < 16) (K : ∀ w', ry_R w' 1 (p + 1, W a :: S, R, I, O, W) → post (sz, o, nu, w', sv)) : wpY_carryOut post (sz, o, nu, w, sv) (nI 16) (nI a) := by
  refine nm_r (e' := nI (p + 1)) (yk_x hr) ?_
  (repeat (first | refine br_t (by decide) ?_ | refine br_f (by decide) ?_))
  have ea : (60 : Int32) + nI a = nI (60 + a) := nI_add 60 a
  refine ⟨pk_in (60 + a) 124 (by omega) ea, ?_⟩
  refine yw_push _ hS hr (fun w2 h2 => nm_e ?_)
  rw [pk_cl (60 + a) ea, hr.2.2.2.2.2.2.2.2.2.2 a ha] at h2
  exact K _ (ry_pc (p + 1) h2)
theorem yk_17 {a : Int32} {j : Nat} (hj : j < 64) (ok : am_ok (p, S, R, I, O, W)) (hr : ry_R w 1 (p, a :: S, R, I, O, W)) (hS : S.length < 16) (K : ∀ w', ry_R w' 1 (p + 1, S, R, I, O, upd W j a) → post (sz, o, nu, w', sv)) : wpY_carryOut post (sz, o, nu, w, sv) (nI 17) (nI j) := by
  refine nm_r (e' := nI (p + 1)) (yk_x hr) ?_
  (repeat (first | refine br_t (by decide) ?_ | refine br_f (by decide) ?_))
  refine yw_pop hS hr (fun w1 h1 => ?_)
  (repeat (first | refine br_t (by decide) ?_ | refine br_f (by decide) ?_))
  have ea : (60 : Int32) + nI j = nI (60 + j) := nI_add 60 j
  refine ⟨pk_in (60 + j) 124 (by omega) ea, nm_r (e' := upd w1 (60 + j) a) (by rw [pk_cl (60 + j) ea]) (nm_e ?_)⟩
  exact K _ (ry_pc (p + 1) (ry_setw j a ok h1))
theorem yk_18 {j : Nat} (hr : ry_R w 1 (p, S, R, I, O, W)) (K : ∀ w', ry_R w' 1 (j, S, R, I, O, W) → post (sz, o, nu, w', sv)) : wpY_carryOut post (sz, o, nu, w, sv) (nI 18) (nI j) := by
  refine nm_r (e' := nI (p + 1)) (yk_x hr) ?_
  (repeat (first | refine br_t (by decide) ?_ | refine br_f (by decide) ?_))
  exact nm_e (K _ (ry_pc j hr))
theorem yk_19 {a : Int32} {j : Nat} (hr : ry_R w 1 (p, a :: S, R, I, O, W)) (hS : S.length < 16) (K : ∀ w', ry_R w' 1 (if a = 0 then j else p + 1, S, R, I, O, W) → post (sz, o, nu, w', sv)) : wpY_carryOut post (sz, o, nu, w, sv) (nI 19) (nI j) := by
  refine nm_r (e' := nI (p + 1)) (yk_x hr) ?_
  (repeat (first | refine br_t (by decide) ?_ | refine br_f (by decide) ?_))
  refine yw_pop hS hr (fun w1 h1 => ?_)
  refine br_c (fun z => ?_) (fun z => ?_)
  · rw [if_pos z] at K; exact nm_e (K _ (ry_pc j h1))
  · rw [if_neg z] at K; exact nm_e (K _ (ry_pc (p + 1) h1))
theorem yk_20 {j : Nat} (hR : R.length < 8) (ok : am_ok (p, S, R, I, O, W)) (hr : ry_R w 1 (p, S, R, I, O, W)) (K : ∀ w', ry_R w' 1 (j, S, (p + 1) :: R, I, O, W) → post (sz, o, nu, w', sv)) : wpY_carryOut post (sz, o, nu, w, sv) (nI 20) (nI j) := by
  refine nm_r (e' := nI (p + 1)) (yk_x hr) ?_
  (repeat (first | refine br_t (by decide) ?_ | refine br_f (by decide) ?_))
  have h3 : w 3 = nI R.length := hr.2.2.2.1
  have ea : 22 + w 3 = nI (22 + R.length) := by rw [h3]; exact nI_add 22 _
  refine ⟨pk_in (22 + R.length) 124 (by omega) ea, nm_r (e' := upd w (22 + R.length) (nI (p + 1))) (by rw [pk_cl (22 + R.length) ea]) (nm_r (e' := upd (upd w (22 + R.length) (nI (p + 1))) 3 (nI (R.length + 1))) (by rw [pk_un (by omega), h3, nI_1]) (nm_e ?_))⟩
  exact K _ (ry_pc j (ry_call (p + 1) hR ok hr))
theorem yk_21 {r : Nat} (hR : R.length < 8) (hr : ry_R w 1 (p, S, r :: R, I, O, W)) (K : ∀ w', ry_R w' 1 (r, S, R, I, O, W) → post (sz, o, nu, w', sv)) : wpY_carryOut post (sz, o, nu, w, sv) (nI 21) n := by
  refine nm_r (e' := nI (p + 1)) (yk_x hr) ?_
  (repeat (first | refine br_t (by decide) ?_ | refine br_f (by decide) ?_))
  have h3 : w 3 = nI (R.length + 1) := hr.2.2.2.1
  have hv : w (22 + (R.map nI).length) = nI r := hr.2.2.2.2.2.2.2.1.1
  rw [List.length_map] at hv
  refine nm_r (e' := upd w 3 (nI R.length)) (by rw [h3, nI_pred]) ?_
  have ea : 22 + upd w 3 (nI R.length) 3 = nI (22 + R.length) := by rw [pk_us]; exact nI_add 22 _
  refine ⟨pk_in (22 + R.length) 124 (by omega) ea, nm_r (e' := upd (upd w 3 (nI R.length)) 0 (nI r)) (by rw [pk_cl (22 + R.length) ea, pk_un (show 22 + R.length ≠ 3 by omega), hv]) ?_⟩
  exact K _ (ry_pc r (ry_ret hr))
theorem yk_22 {a : Int32} (ok : am_ok (p, S, R, a :: I, O, W)) (hr : ry_R w 1 (p, S, R, a :: I, O, W)) (hS : S.length < 16) (K : ∀ w', ry_R w' 1 (p + 1, a :: S, R, I, O, W) → post (sz, o, nu, w', sv)) : wpY_carryOut post (sz, o, nu, w, sv) (nI 22) n := by
  refine nm_r (e' := nI (p + 1)) (yk_x hr) ?_
  (repeat (first | refine br_t (by decide) ?_ | refine br_f (by decide) ?_))
  refine yw_in ok hr (fun w1 h1 => ?_)
  exact yw_push a hS h1 (fun w2 h2 => nm_e (K _ (ry_pc (p + 1) h2)))
theorem yk_23 {a : Int32} (hO : O.length < 20) (ok : am_ok (p, S, R, I, O, W)) (hr : ry_R w 1 (p, a :: S, R, I, O, W)) (hS : S.length < 16) (K : ∀ w', ry_R w' 1 (p + 1, S, R, I, a :: O, W) → post (sz, o, nu, w', sv)) : wpY_carryOut post (sz, o, nu, w, sv) (nI 23) n := by
  refine nm_r (e' := nI (p + 1)) (yk_x hr) ?_
  (repeat (first | refine br_t (by decide) ?_ | refine br_f (by decide) ?_))
  refine yw_pop hS hr (fun w1 h1 => ?_)
  (repeat (first | refine br_t (by decide) ?_ | refine br_f (by decide) ?_))
  have h5 : w1 5 = nI O.length := h1.2.2.2.2.2.1
  have ea : 40 + w1 5 = nI (40 + O.length) := by rw [h5]; exact nI_add 40 _
  refine ⟨pk_in (40 + O.length) 124 (by omega) ea, nm_r (e' := upd w1 (40 + O.length) a) (by rw [pk_cl (40 + O.length) ea]) (nm_r (e' := upd (upd w1 (40 + O.length) a) 5 (nI (O.length + 1))) (by rw [pk_un (by omega), h5, nI_1]) (nm_e ?_))⟩
  exact K _ (ry_pc (p + 1) (ry_out a hO ok h1))
theorem yk_24 (hr : ry_R w 1 (p, S, R, I, O, W)) (K : ∀ w', ry_R w' 2 (p, S, R, I, O, W) → post (sz, o, nu, w', sv)) : wpY_carryOut post (sz, o, nu, w, sv) (nI 24) n := by
  refine nm_r (e' := nI (p + 1)) (yk_x hr) ?_
  (repeat (first | refine br_t (by decide) ?_ | refine br_f (by decide) ?_))
  exact nm_e (K _ (ry_st 2 hr))
end YK
end
section
section YM
variable {sz : Int32} {o nu w sv : Nat → Int32} {st : Int32} {p : Nat} {S : List Int32} {R : List Nat} {I O : List Int32} {W : Nat → Int32}
theorem ym_carry {post : SY → Prop} {op : Nat} {n : Int32} (hop : op ≤ 24) (hn : am_num op n) (ok : am_ok (p, S, R, I, O, W)) (hc : am_can op (p, S, R, I, O, W)) (hr : ry_R w 1 (p, S, R, I, O, W))
    (K : ∀ w', ry_R w' (am_st op) (am_go op n (p, S, R, I, O, W)) → post (sz, o, nu, w', sv)) : wpY_carryOut post (sz, o, nu, w, sv) (nI op) n := by
  obtain ⟨h1, h2, h3, h4, h5, h6, h7, h8⟩ := hc
  have okk := ok
  obtain ⟨o0, o1, o2, o3, o4, o5⟩ := ok
  dsimp only at h1 h2 h3 h4 h5 h6 h7 h8 o0 o1 o2 o3 o4 o5
  have hcs : op = 0 ∨ op = 1 ∨ op = 2 ∨ op = 3 ∨ op = 4 ∨ (5 ≤ op ∧ op ≤ 11) ∨ op = 12 ∨ op = 13 ∨ op = 14 ∨ op = 15 ∨ op = 16 ∨ op = 17 ∨ op = 18 ∨ op = 19 ∨ op = 20 ∨ op = 21 ∨ op = 22 ∨ op = 23 ∨ op = 24 := by omega
  rcases hcs with rfl | rfl | rfl | rfl | rfl | hs | rfl | rfl | rfl | rfl | rfl | rfl | rfl | rfl | rfl | rfl | rfl | rfl | rfl
  · rw [show am_gv 0 = 1 from rfl, show am_tk 0 = 0 from rfl] at h5
    exact yk_0 hr (by omega) K
  · obtain ⟨a, T, rfl⟩ := li_1 (S := S) h1
    rw [List.length_cons] at o1
    exact yk_1 hr (by omega) K
  · obtain ⟨a, T, rfl⟩ := li_1 (S := S) h1
    rw [show am_gv 2 = 2 from rfl, show am_tk 2 = 1 from rfl] at h5
    rw [List.length_cons] at o1 h5
    exact yk_2 hr (by omega) K
  · obtain ⟨a, b, T, rfl⟩ := li_2 (S := S) h1
    rw [List.length_cons, List.length_cons] at o1
    exact yk_3 hr (by omega) K
  · obtain ⟨a, b, T, rfl⟩ := li_2 (S := S) h1
    rw [show am_gv 4 = 3 from rfl, show am_tk 4 = 2 from rfl] at h5
    rw [List.length_cons, List.length_cons] at o1 h5
    exact yk_4 hr (by omega) K
  · have ht : am_tk op = 2 := by unfold am_tk; rw [if_neg (by omega), if_pos (by omega)]
    rw [ht] at h1
    obtain ⟨a, b, T, rfl⟩ := li_2 (S := S) h1
    rw [List.length_cons, List.length_cons] at o1
    refine yk_5 hs.1 hs.2 h2 hr (by omega) (fun w' h' => K w' ?_)
    have hc : op = 5 ∨ op = 6 ∨ op = 7 ∨ op = 8 ∨ op = 9 ∨ op = 10 ∨ op = 11 := by omega
    rcases hc with rfl | rfl | rfl | rfl | rfl | rfl | rfl <;> exact h'
  · obtain ⟨a, T, rfl⟩ := li_1 (S := S) h1
    rw [List.length_cons] at o1
    exact yk_12 hr (by omega) K
  · obtain ⟨a, T, rfl⟩ := li_1 (S := S) h1
    rw [List.length_cons] at o1
    exact yk_13 hr (by omega) K
  · obtain ⟨a, T, rfl⟩ := li_1 (S := S) h1
    rw [List.length_cons] at o1
    have h3' : 0 ≤ a ∧ a < 64 := h3 (Or.inl rfl)
    obtain ⟨j, hj, rfl⟩ := nI_of (x := a) (Int32.not_lt.mpr h3'.1)
    have hj2 : j < 64 := (nI_ltI hj (by decide)).mp h3'.2
    refine yk_14 hj2 hr (by omega) (fun w' h' => K w' ?_)
    have e : am_go 14 n (p, nI j :: T, R, I, O, W) = (p + 1, W (nI j).toNatClampNeg :: T, R, I, O, W) := rfl
    rw [e, nI_clamp (by omega)]; exact h'
  · obtain ⟨a, b, T, rfl⟩ := li_2 (S := S) h1
    rw [List.length_cons, List.length_cons] at o1
    have h3' : 0 ≤ a ∧ a < 64 := h3 (Or.inr rfl)
    obtain ⟨j, hj, rfl⟩ := nI_of (x := a) (Int32.not_lt.mpr h3'.1)
    have hj2 : j < 64 := (nI_ltI hj (by decide)).mp h3'.2
    refine yk_15 hj2 ⟨o0, by dsimp only; omega, o2, o3, o4, o5⟩ hr (by omega) (fun w' h' => K w' ?_)
    have e : am_go 15 n (p, nI j :: b :: T, R, I, O, W) = (p + 1, T, R, I, O, upd W (nI j).toNatClampNeg b) := rfl
    rw [e, nI_clamp (by omega)]; exact h'
  · rw [show am_gv 16 = 1 from rfl, show am_tk 16 = 0 from rfl] at h5
    obtain ⟨j, hj, rfl⟩ := hn.1 (Or.inl rfl)
    refine yk_16 hj hr (by omega) (fun w' h' => K w' ?_)
    have e : am_go 16 (nI j) (p, S, R, I, O, W) = (p + 1, W (nI j).toNatClampNeg :: S, R, I, O, W) := rfl
    rw [e, nI_clamp (by omega)]; exact h'
  · obtain ⟨a, T, rfl⟩ := li_1 (S := S) h1
    rw [List.length_cons] at o1
    obtain ⟨j, hj, rfl⟩ := hn.1 (Or.inr rfl)
    refine yk_17 hj ⟨o0, by dsimp only; omega, o2, o3, o4, o5⟩ hr (by omega) (fun w' h' => K w' ?_)
    have e : am_go 17 (nI j) (p, a :: T, R, I, O, W) = (p + 1, T, R, I, O, upd W (nI j).toNatClampNeg a) := rfl
    rw [e, nI_clamp (by omega)]; exact h'
  · obtain ⟨j, hj, rfl⟩ := hn.2 (Or.inl rfl)
    refine yk_18 hr (fun w' h' => K w' ?_)
    have e : am_go 18 (nI j) (p, S, R, I, O, W) = ((nI j).toNatClampNeg, S, R, I, O, W) := rfl
    rw [e, nI_clamp (by omega)]; exact h'
  · obtain ⟨a, T, rfl⟩ := li_1 (S := S) h1
    rw [List.length_cons] at o1
    obtain ⟨j, hj, rfl⟩ := hn.2 (Or.inr (Or.inl rfl))
    refine yk_19 hr (by omega) (fun w' h' => K w' ?_)
    have e : am_go 19 (nI j) (p, a :: T, R, I, O, W) = (if a = 0 then (nI j).toNatClampNeg else p + 1, T, R, I, O, W) := rfl
    rw [e, nI_clamp (by omega)]; exact h'
  · obtain ⟨j, hj, rfl⟩ := hn.2 (Or.inr (Or.inr rfl))
    refine yk_20 (h6 rfl) okk hr (fun w' h' => K w' ?_)
    have e : am_go 20 (nI j) (p, S, R, I, O, W) = ((nI j).toNatClampNeg, S, (p + 1) :: R, I, O, W) := rfl
    rw [e, nI_clamp (by omega)]; exact h'
  · cases R with
    | nil => exact absurd rfl (h7 rfl)
    | cons r R =>
      rw [List.length_cons] at o2
      exact yk_21 (by omega) hr K
  · rw [show am_gv 22 = 1 from rfl, show am_tk 22 = 0 from rfl] at h5
    cases I with
    | nil => exact absurd rfl (h4 rfl)
    | cons a I => exact yk_22 okk hr (by omega) K
  · obtain ⟨a, T, rfl⟩ := li_1 (S := S) h1
    rw [List.length_cons] at o1
    exact yk_23 (h8 rfl) ⟨o0, by dsimp only; omega, o2, o3, o4, o5⟩ hr (by omega) K
  · exact yk_24 hr K
end YM
/-- the code of the reference -/
def ry_C (f_size : Int32) (a_ops a_numbers : Nat → Int32) (sz : Nat) (op : Nat → Nat) (num : Nat → Int32) : Prop :=
  f_size = nI sz ∧ (∀ i, i < sz → a_ops i = nI (op i)) ∧ (∀ i, i < sz → a_numbers i = num i)
theorem ym_off {post : Int32 → SY → Prop} {lim cnt f_size : Int32} {o nu w sv : Nat → Int32} (h : ¬ w 1 = 1) (n : Nat) (K : post cnt (f_size, o, nu, w, sv)) : wY_step_17 post lim (n + 1) cnt f_size o nu w sv :=
  br_c (fun _ => K) (fun _ => br_f h K)
theorem ym_loop {post : Int32 → SY → Prop} {f_size : Int32} {o nu sv : Nat → Int32} {sz : Nat} {op : Nat → Nat} {num : Nat → Int32} (hcode : am_code sz op num) (hC : ry_C f_size o nu sz op num) (lim : Nat) (hl : lim ≤ 300) :
    ∀ (g cnt : Nat) (w : Nat → Int32) (A : am_T), cnt + g = lim → am_ok A → ry_R w 1 A →
    (∀ w', ry_R w' (am_run sz op num g A).2.2 (am_run sz op num g A).2.1 → am_ok (am_run sz op num g A).2.1 → post (nI (cnt + (am_run sz op num g A).1)) (f_size, o, nu, w', sv)) →
    wY_step_17 post (nI lim) (g + 2) (nI cnt) f_size o nu w sv := by
  obtain ⟨hz, ho, hnu⟩ := hC
  intro g
  induction g with
  | zero =>
    intro cnt w A hg ok hr K
    exact br_t (nI_le (by omega) (by omega)) (K w hr ok)
  | succ g ih =>
    intro cnt w A hg ok hr K
    obtain ⟨p, S, R, I, O, W⟩ := A
    refine br_f (nI_ge (by omega) (by omega)) (br_t hr.2.1 (nm_r (e' := nI p) hr.1 ?_))
    have hp40 : p ≤ 40 := ok.1
    rw [am_run] at K
    have hsz40 := hcode.1
    refine pk_lt p sz (fun hlt => ?_) (fun hge => ?_) rfl hz
    · have hcp := hcode.2 p hlt
      rw [if_neg (show ¬ sz ≤ p by omega)] at K
      refine ⟨pk_in p 40 (by omega), ?_⟩
      rw [pk_cl p, ho p hlt]
      refine yh_main hcp.1 ok hr ?_
      refine ⟨vp_in_nI (n := 1) (by omega) (by omega), nm_e ?_⟩
      have ec : (1 : Int32).toNatClampNeg = 1 := by decide
      rw [ec]
      have hr1 := ry_st (am_hi (op p) (p, S, R, I, O, W)) hr
      by_cases hh : am_hi (op p) (p, S, R, I, O, W) = 1
      · rw [if_neg (fun z => z hh)] at K
        rw [hh] at hr1
        rw [hh]
        refine br_t pk_us ⟨pk_in p 40 (by omega), pk_in p 40 (by omega), ?_⟩
        rw [pk_cl p, ho p hlt, hnu p hlt]
        have hcan := am_hi_can hh
        refine ym_carry hcp.1 hcp.2 ok hcan hr1 (fun w' h' => nm_r (e' := nI (cnt + 1)) (nI_1 cnt) ?_)
        have ok' := am_ok_go hcp.1 hcp.2 hlt hsz40 ok hcan
        by_cases h24 : op p = 24
        · rw [if_pos h24] at K
          rw [h24] at h' ok'
          exact ym_off (by rw [h'.2.1]; decide) (g + 1) (K w' h' ok')
        · rw [if_neg h24] at K
          have est : am_st (op p) = 1 := if_neg h24
          rw [est] at h'
          refine ih (cnt + 1) w' _ (by omega) ok' h' (fun w2 h2 ok2 => ?_)
          have e : cnt + 1 + (am_run sz op num g (am_go (op p) (num p) (p, S, R, I, O, W))).1 = cnt + ((am_run sz op num g (am_go (op p) (num p) (p, S, R, I, O, W))).1 + 1) := by omega
          rw [e]
          exact K w2 h2 ok2
      · rw [if_pos hh] at K
        refine br_f (by rw [pk_us]; exact hh) ?_
        exact ym_off (by rw [pk_us]; exact hh) (g + 1) (K _ hr1 ok)
    · rw [if_pos (show sz ≤ p from hge)] at K
      refine ⟨vp_in_nI (n := 1) (by omega) (by omega), nm_e ?_⟩
      have ec : (1 : Int32).toNatClampNeg = 1 := by decide
      rw [ec]
      refine br_f (by rw [pk_us]; decide) ?_
      exact ym_off (by rw [pk_us]; decide) (g + 1) (K _ (ry_st 4 hr) ok)
end
section
/-! small numbers stay as they are when they are stored -/
theorem wi_b {n : Nat} (h : n < 128) : (nI n).toInt8.toInt32 = nI n := by
  have : ∀ k, k < 128 → (nI k).toInt8.toInt32 = nI k := by decide +kernel
  exact this n h
theorem wi_s {n : Nat} (h : n < 32768) : (nI n).toInt16.toInt32 = nI n := by
  have h2 : (nI n).toInt = (n : Int) := nI_toInt (by omega)
  exact lg_i2s_small (by omega) (by omega)
theorem wi_bs {n : Nat} (h : n < 128) : vp_nar .byte (nI n) = nI n := by rw [vp_nar_byte]; exact wi_b h
theorem wi_ss {n : Nat} (h : n < 32768) : vp_nar .short (nI n) = nI n := by rw [vp_nar_short]; exact wi_s h
/-! the component's machine against the abstract one -/
def rx_R (m : ty_M) (st : Int32) (A : am_T) : Prop :=
  gm_status m = st ∧ gm_at m = nI A.1 ∧ gm_stackSize m = nI A.2.1.length ∧ gm_returnSize m = nI A.2.2.1.length ∧ gm_inputSize m = nI A.2.2.2.1.length ∧ gm_outputSize m = nI A.2.2.2.2.1.length ∧
  sg_R (gm_stack m) 0 A.2.1 ∧ sg_R (gm_returns m) 0 (A.2.2.1.map nI) ∧ qu_R (gm_inputs m) 0 A.2.2.2.1 ∧ sg_R (gm_outs m) 0 A.2.2.2.2.1 ∧ ∀ i, i < 64 → gm_words m i = A.2.2.2.2.2 i
/-- a page of memory whose bit is not set is as it was saved -/
def ch_R (ch : Int32) (w s : Nat → Int32) : Prop := ∀ g, g < 8 → ((ch >>> (nI g &&& 31)) &&& 1) = 0 → ∀ i, i < 8 → w (g * 8 + i) = s (g * 8 + i)
def xm_R (s : Nat → Int32) (m : ty_M) (st : Int32) (A : am_T) : Prop := rx_R m st A ∧ ch_R (gm_changedPages m) (gm_words m) s
theorem ch_bit (x : Int32) {g : Nat} (hg : g < 32) : ((x >>> (nI g &&& 31)) &&& 1) = 0 ↔ bt x g = false := by
  constructor
  · intro h
    have h2 : bt ((x >>> (nI g &&& 31)) &&& 1) 0 = false := by rw [h]; exact b_0 0
    rw [b_and, b_sshr g hg x (by decide)] at h2
    rw [if_pos (show g + 0 < 32 by omega), show bt 1 0 = true by decide, Bool.and_true] at h2
    exact h2
  · intro h
    apply b_ext
    intro i hi
    rw [b_and, b_0]
    cases i with
    | zero =>
      rw [b_sshr g hg x (by decide), if_pos (show g + 0 < 32 by omega)]
      rw [show g + 0 = g from rfl, h]; rfl
    | succ i =>
      have e : bt 1 (i + 1) = false := by
        have : ∀ j, j < 32 → j ≠ 0 → bt 1 j = false := by decide
        exact this (i + 1) hi (by omega)
      rw [e, Bool.and_false]
theorem ch_or {ch : Int32} {w s : Nat → Int32} {a : Nat} (ha : a < 64) (v : Int32) (h : ch_R ch w s) : ch_R (ch ||| ((1 : Int32) <<< ((nI a / 8) &&& 31))) (upd w a v) s := by
  intro g hg hb i hi
  have ed : nI a / 8 = nI (a / 8) := pk_div (d := 8) (by omega) (by decide) (by decide)
  rw [ed, ch_bit _ (by omega), b_or, b_shl (a / 8) (by omega) 1 (by omega), Bool.or_eq_false_iff] at hb
  by_cases e : g = a / 8
  · subst e
    have hb2 := hb.2
    rw [Nat.sub_self, show bt 1 0 = true by decide, Bool.and_true] at hb2
    exact absurd (of_decide_eq_false hb2) (by omega)
  · rw [pk_un (by omega)]
    exact h g hg ((ch_bit _ (by omega)).mpr hb.1) i hi
section XW
variable {s : Nat → Int32} {c : ty_C} {m : ty_M} {e : ty_E} {b : ty_B} {x : ty_X} {d : ty_D} {st : Int32} {p : Nat} {S : List Int32} {R : List Nat} {I O : List Int32} {W : Nat → Int32}
theorem xw_push {post : SX → Prop} (v : Int32) (hS : S.length < 16) (h : xm_R s m st (p, S, R, I, O, W)) (K : ∀ m', xm_R s m' st (p, v :: S, R, I, O, W) → post (mk_S c m' e b x d)) : wpX_push post (mk_S c m e b x d) v := by
  obtain ⟨⟨h0, h1, h2, h3, h4, h5, hs, hr, hi, ho, hw⟩, hch⟩ := h
  dsimp only at h0 h1 h2 h3 h4 h5 hs hr hi ho hw
  refine And.intro (pk_in S.length 16 hS h2) (nm_r (e' := upd (gm_stack m) S.length v) ?_ (nm_r (e' := nI (S.length + 1)) ?_ ?_))
  · show upd (gm_stack m) (gm_stackSize m).toNatClampNeg v = _
    rw [pk_cl S.length h2]
  · show gm_stackSize m + 1 = _
    rw [h2, nI_1]
  · refine K ((gm_status m, gm_at m, nI (S.length + 1), gm_returnSize m, gm_inputSize m, gm_outputSize m, gm_changedPages m, upd (gm_stack m) S.length v, gm_returns m, gm_words m, gm_inputs m, gm_outs m)) ⟨⟨h0, h1, rfl, h3, h4, h5, sg_push (f := gm_stack m) (k := 0) (fun i hi => ?_) ?_ hs, hr, hi, ho, hw⟩, hch⟩
    · exact pk_un (by omega)
    · show upd (gm_stack m) S.length v (0 + S.length) = v
      rw [Nat.zero_add, pk_us]
theorem xw_write {post : SX → Prop} (a : Nat) (v : Int32) (ha : a < 64) (h : xm_R s m st (p, S, R, I, O, W)) (K : ∀ m', xm_R s m' st (p, S, R, I, O, upd W a v) → post (mk_S c m' e b x d)) : wpX_writeWord post (mk_S c m e b x d) (nI a) v := by
  obtain ⟨⟨h0, h1, h2, h3, h4, h5, hs, hr, hi, ho, hw⟩, hch⟩ := h
  dsimp only at h0 h1 h2 h3 h4 h5 hs hr hi ho hw
  refine And.intro (pk_in a 64 ha) (nm_r (e' := upd (gm_words m) a v) ?_ (And.intro (by decide) (nm_e ?_)))
  · show upd (gm_words m) (nI a).toNatClampNeg v = _
    rw [pk_cl a]
  · refine K ((gm_status m, gm_at m, gm_stackSize m, gm_returnSize m, gm_inputSize m, gm_outputSize m, gm_changedPages m ||| ((1 : Int32) <<< ((nI a / 8) &&& 31)), gm_stack m, gm_returns m, upd (gm_words m) a v, gm_inputs m, gm_outs m)) ⟨⟨h0, h1, h2, h3, h4, h5, hs, hr, hi, ho, fun i hi => ?_⟩, ch_or ha v hch⟩
    show upd (gm_words m) a v i = upd W a v i
    by_cases e : i = a
    · subst e; rw [pk_us, pk_us]
    · rw [pk_un e, pk_un e]; exact hw i hi
theorem xw_val {post : Int32 → Prop} {op : Nat} {a b : Int32} (h1 : 5 ≤ op) (h2 : op ≤ 13) (h : post (am_val op b a)) : wpX_valueOf post (nI op) b a := by
  have hc : op = 5 ∨ op = 6 ∨ op = 7 ∨ op = 8 ∨ op = 9 ∨ op = 10 ∨ op = 11 ∨ op = 12 ∨ op = 13 := by omega
  rcases hc with rfl | rfl | rfl | rfl | rfl | rfl | rfl | rfl | rfl
  · (repeat (first | refine br_t (by decide) ?_ | refine br_f (by decide) ?_)); exact h
  · (repeat (first | refine br_t (by decide) ?_ | refine br_f (by decide) ?_)); exact h
  · (repeat (first | refine br_t (by decide) ?_ | refine br_f (by decide) ?_)); exact h
  · (repeat (first | refine br_t (by decide) ?_ | refine br_f (by decide) ?_))
    rw [show am_val 8 b a = if a = 0 then 0 else b / a from rfl] at h
    exact br_c (fun z => by rw [if_pos z] at h; exact h) (fun z => And.intro z (by rw [if_neg z] at h; exact h))
  · (repeat (first | refine br_t (by decide) ?_ | refine br_f (by decide) ?_))
    rw [show am_val 9 b a = if a = 0 then 0 else b - b / a * a from rfl] at h
    exact br_c (fun z => by rw [if_pos z] at h; exact h) (fun z => And.intro z (by rw [if_neg z] at h; exact h))
  · (repeat (first | refine br_t (by decide) ?_ | refine br_f (by decide) ?_))
    rw [show am_val 10 b a = if a ≤ b then 0 else 1 from rfl] at h
    exact br_c (fun z => by rw [if_pos z] at h; exact h) (fun z => by rw [if_neg z] at h; exact h)
  · (repeat (first | refine br_t (by decide) ?_ | refine br_f (by decide) ?_))
    rw [show am_val 11 b a = if b = a then 1 else 0 from rfl] at h
    exact br_c (fun z => by rw [if_pos z] at h; exact h) (fun z => by rw [if_neg z] at h; exact h)
  · (repeat (first | refine br_t (by decide) ?_ | refine br_f (by decide) ?_))
    rw [show am_val 12 b a = if a = 0 then 1 else 0 from rfl] at h
    exact br_c (fun z => by rw [if_pos z] at h; exact h) (fun z => by rw [if_neg z] at h; exact h)
  · (repeat (first | refine br_t (by decide) ?_ | refine br_f (by decide) ?_)); exact h
theorem xw_takes {post : Int32 → Prop} {op : Nat} (hop : op ≤ 24) (h : post (nI (am_tk op))) : wpX_takes post (nI op) := by
  have hc : op = 0 ∨ op = 1 ∨ op = 2 ∨ op = 3 ∨ op = 4 ∨ op = 5 ∨ op = 6 ∨ op = 7 ∨ op = 8 ∨ op = 9 ∨ op = 10 ∨ op = 11 ∨ op = 12 ∨ op = 13 ∨ op = 14 ∨ op = 15 ∨ op = 16 ∨ op = 17 ∨ op = 18 ∨ op = 19 ∨ op = 20 ∨ op = 21 ∨ op = 22 ∨ op = 23 ∨ op = 24 := by omega
  rcases hc with rfl | rfl | rfl | rfl | rfl | rfl | rfl | rfl | rfl | rfl | rfl | rfl | rfl | rfl | rfl | rfl | rfl | rfl | rfl | rfl | rfl | rfl | rfl | rfl | rfl <;> (repeat (first | refine br_t (by decide) ?_ | refine br_f (by decide) ?_)) <;> exact h
theorem xw_gives {post : Int32 → Prop} {op : Nat} (hop : op ≤ 24) (h : post (nI (am_gv op))) : wpX_gives post (nI op) := by
  have hc : op = 0 ∨ op = 1 ∨ op = 2 ∨ op = 3 ∨ op = 4 ∨ op = 5 ∨ op = 6 ∨ op = 7 ∨ op = 8 ∨ op = 9 ∨ op = 10 ∨ op = 11 ∨ op = 12 ∨ op = 13 ∨ op = 14 ∨ op = 15 ∨ op = 16 ∨ op = 17 ∨ op = 18 ∨ op = 19 ∨ op = 20 ∨ op = 21 ∨ op = 22 ∨ op = 23 ∨ op = 24 := by omega
  rcases hc with rfl | rfl | rfl | rfl | rfl | rfl | rfl | rfl | rfl | rfl | rfl | rfl | rfl | rfl | rfl | rfl | rfl | rfl | rfl | rfl | rfl | rfl | rfl | rfl | rfl <;> (repeat (first | refine br_t (by decide) ?_ | refine br_f (by decide) ?_)) <;> exact h
end XW
end
section
/-! the component's single step -/
section XT
variable {s : Nat → Int32} {c : ty_C} {m : ty_M} {e : ty_E} {b : ty_B} {x : ty_X} {d : ty_D} {st : Int32} {p : Nat} {S : List Int32} {R : List Nat} {I O : List Int32} {W : Nat → Int32}
theorem xt_129 {post : Int32 → Prop} {op : Nat} (hop : op ≤ 24) (h5 : gm_outputSize m = nI O.length) (hO : O.length ≤ 20) (h : post (if op = 23 ∧ 20 ≤ O.length then 10 else 1)) : lo_trap_129 post (nI op) c m e b x d := by
  refine pk_eq op 23 (fun e => ?_) (fun e => ?_)
  · refine pk_lt O.length 20 (fun z => ?_) (fun z => ?_) h5
    · rw [if_neg (fun q => by omega)] at h; exact h
    · rw [if_pos ⟨e, z⟩] at h; exact h
  · rw [if_neg (fun q => e q.1)] at h; exact h
theorem xt_113 {post : Int32 → Prop} {op : Nat} (hop : op ≤ 24) (h3 : gm_returnSize m = nI R.length) (hR : R.length ≤ 8) (h5 : gm_outputSize m = nI O.length) (hO : O.length ≤ 20) (h : post (if op = 21 ∧ R.length = 0 then 9 else if op = 23 ∧ 20 ≤ O.length then 10 else 1)) : lo_trap_113 post (nI op) c m e b x d := by
  refine pk_eq op 21 (fun e => ?_) (fun e => ?_)
  · refine pk_eq R.length 0 (fun z => ?_) (fun z => ?_) h3
    · rw [if_pos ⟨e, z⟩] at h; exact h
    · rw [if_neg (fun q => z q.2)] at h; exact xt_129 hop h5 hO h
  · rw [if_neg (fun q => e q.1)] at h; exact xt_129 hop h5 hO h
theorem xt_79 {post : Int32 → Prop} {op : Nat} (hop : op ≤ 24) (h2 : gm_stackSize m = nI S.length) (hS : S.length ≤ 16) (ht : am_tk op ≤ S.length) (h3 : gm_returnSize m = nI R.length) (hR : R.length ≤ 8) (h5 : gm_outputSize m = nI O.length) (hO : O.length ≤ 20)
    (h : post (if 16 < S.length - am_tk op + am_gv op ∨ (op = 20 ∧ 8 ≤ R.length) then 8 else if op = 21 ∧ R.length = 0 then 9 else if op = 23 ∧ 20 ≤ O.length then 10 else 1)) : lo_trap_79 post (nI op) (nI (am_tk op)) c m e b x d := by
  unfold lo_trap_79 wX_trap_79
  refine xw_gives hop ?_
  have hg3 : am_gv op ≤ 3 := by unfold am_gv; (repeat' split) <;> omega
  refine pk_lt 16 (S.length - am_tk op + am_gv op) (fun z => ?_) (fun z => ?_) rfl ?_
  · rw [if_pos (Or.inl z)] at h; exact h
  · refine pk_eq op 20 (fun e20 => ?_) (fun e20 => ?_)
    · refine pk_lt R.length 8 (fun y => ?_) (fun y => ?_) h3
      · rw [if_neg (fun q => by omega)] at h; exact xt_113 hop h3 hR h5 hO h
      · rw [if_pos (Or.inr ⟨e20, y⟩)] at h; exact h
    · rw [if_neg (fun q => by omega)] at h; exact xt_113 hop h3 hR h5 hO h
  · show (gm_stackSize m - nI (am_tk op)) + nI (am_gv op) = _
    rw [h2, pk_sub ht, nI_add]
theorem xt_54 {post : Int32 → Prop} {op : Nat} (hop : op ≤ 24) (h2 : gm_stackSize m = nI S.length) (hS : S.length ≤ 16) (ht : am_tk op ≤ S.length) (h3 : gm_returnSize m = nI R.length) (hR : R.length ≤ 8) (h5 : gm_outputSize m = nI O.length) (hO : O.length ≤ 20) (t : Int32)
    (h : post (if (op = 14 ∨ op = 15) ∧ ¬ (0 ≤ t ∧ t < 64) then 7 else if 16 < S.length - am_tk op + am_gv op ∨ (op = 20 ∧ 8 ≤ R.length) then 8 else if op = 21 ∧ R.length = 0 then 9 else if op = 23 ∧ 20 ≤ O.length then 10 else 1)) : lo_trap_54 post (nI op) (nI (am_tk op)) t c m e b x d := by
  have h66 : (op = 14 ∨ op = 15) → lo_trap_66 post (nI op) (nI (am_tk op)) t c m e b x d := by
    intro e
    refine br_c (fun z => ?_) (fun z => br_c (fun y => ?_) (fun y => ?_))
    · rw [if_pos ⟨e, fun q => (Int32.not_lt.mpr q.1) z⟩] at h; exact h
    · rw [if_neg (fun q => q.2 ⟨Int32.not_lt.mp z, y⟩)] at h
      exact xt_79 hop h2 hS ht h3 hR h5 hO h
    · rw [if_pos ⟨e, fun q => y q.2⟩] at h; exact h
  refine pk_eq op 14 (fun e => h66 (Or.inl e)) (fun e14 => pk_eq op 15 (fun e => h66 (Or.inr e)) (fun e15 => ?_))
  rw [if_neg (fun q => by omega)] at h
  exact xt_79 hop h2 hS ht h3 hR h5 hO h
theorem xt_34 {post : Int32 → Prop} {op : Nat} (hop : op ≤ 24) (h2 : gm_stackSize m = nI S.length) (hS : S.length ≤ 16) (ht : am_tk op ≤ S.length) (h3 : gm_returnSize m = nI R.length) (hR : R.length ≤ 8) (h5 : gm_outputSize m = nI O.length) (hO : O.length ≤ 20) (t : Int32)
    (h : post (if (op = 8 ∨ op = 9) ∧ t = 0 then 6 else if (op = 14 ∨ op = 15) ∧ ¬ (0 ≤ t ∧ t < 64) then 7 else if 16 < S.length - am_tk op + am_gv op ∨ (op = 20 ∧ 8 ≤ R.length) then 8 else if op = 21 ∧ R.length = 0 then 9 else if op = 23 ∧ 20 ≤ O.length then 10 else 1)) : lo_trap_34 post (nI op) (nI (am_tk op)) t c m e b x d := by
  have h47 : (op = 8 ∨ op = 9) → lo_trap_47 post (nI op) (nI (am_tk op)) t c m e b x d := by
    intro e
    refine br_c (fun z => ?_) (fun z => ?_)
    · rw [if_pos ⟨e, z⟩] at h; exact h
    · rw [if_neg (fun q => z q.2)] at h
      exact xt_54 hop h2 hS ht h3 hR h5 hO t h
  refine pk_eq op 8 (fun e => h47 (Or.inl e)) (fun e14 => pk_eq op 9 (fun e => h47 (Or.inr e)) (fun e15 => ?_))
  rw [if_neg (fun q => by omega)] at h
  exact xt_54 hop h2 hS ht h3 hR h5 hO t h
theorem sg_top {f : Nat → Int32} {S : List Int32} (h : sg_R f 0 S) (hl : 0 < S.length) : f (S.length - 1) = S.headD 0 := by
  cases S with
  | nil => exact absurd hl (by decide)
  | cons a T =>
    have := h.1
    rw [Nat.zero_add] at this
    exact this
theorem sg_2nd {f : Nat → Int32} {S : List Int32} (h : sg_R f 0 S) (hl : 1 < S.length) : f (S.length - 2) = S.tail.headD 0 := by
  cases S with
  | nil => exact absurd hl (by decide)
  | cons a T =>
    have h1 : 0 < T.length := by rw [List.length_cons] at hl; omega
    have := sg_top h.2 h1
    rw [show (a :: T).length - 2 = T.length - 1 by rw [List.length_cons]; omega]
    exact this
theorem xt_main {post : Int32 → Prop} {op : Nat} (hop : op ≤ 24) (ok : am_ok (p, S, R, I, O, W)) (hr : rx_R m st (p, S, R, I, O, W)) (hin : ¬ (op = 22 ∧ I.length = 0)) (h : post (am_hi op (p, S, R, I, O, W))) : wpX_trap post (mk_S c m e b x d) (nI op) := by
  obtain ⟨h0, h1, h2, h3, h4, h5, hs, -, -, -, -⟩ := hr
  obtain ⟨-, o1, o2, o3, o4, -⟩ := ok
  dsimp only at h0 h1 h2 h3 h4 h5 hs o1 o2 o3 o4
  unfold wpX_trap mk_S; dsimp only
  refine xw_takes hop ?_
  have ht2 : am_tk op ≤ 2 := by unfold am_tk; (repeat' split) <;> omega
  unfold am_hi at h
  dsimp only at h
  refine pk_le (am_tk op) S.length (fun hle => ?_) (fun hlt => ?_) rfl h2
  · rw [if_neg (show ¬ S.length < am_tk op by omega)] at h
    rw [if_neg hin] at h
    refine pk_le (am_tk op) 0 (fun z => ?_) (fun z => ?_)
    · have hn89 : ¬ (op = 8 ∨ op = 9) := by
        rintro (rfl | rfl)
        · exact absurd z (by decide)
        · exact absurd z (by decide)
      have hn14 : ¬ (op = 14 ∨ op = 15) := by
        rintro (rfl | rfl)
        · exact absurd z (by decide)
        · exact absurd z (by decide)
      rw [if_neg (fun q => hn89 q.1), if_neg (fun q => hn14 q.1)] at h
      refine xt_34 hop h2 o1 hle h3 o2 h5 o4 0 ?_
      rw [if_neg (fun q => hn89 q.1), if_neg (fun q => hn14 q.1)]
      exact h
    · have e1 : gm_stackSize m - 1 = nI (S.length - 1) := by rw [h2]; exact pk_sub (b := 1) (by omega)
      refine And.intro (pk_in (S.length - 1) 16 (by omega) e1) ?_
      have e2 : gm_stack m (gm_stackSize m - 1).toNatClampNeg = S.headD 0 := by rw [pk_cl (S.length - 1) e1]; exact sg_top hs (by omega)
      have hg := xt_34 (c := c) (e := e) (b := b) (x := x) (d := d) (m := m) hop h2 o1 hle h3 o2 h5 o4 (S.headD 0) h
      rw [← e2] at hg
      exact hg
  · rw [if_pos hlt] at h; exact h
end XT
end
section
section XS
variable {s : Nat → Int32} {c : ty_C} {m : ty_M} {e : ty_E} {b : ty_B} {x : ty_X} {d : ty_D} {st : Int32} {p : Nat} {S : List Int32} {R : List Nat} {I O : List Int32} {W : Nat → Int32}
theorem sg_drop {f : Nat → Int32} {k : Nat} : ∀ (j : Nat) {S : List Int32}, sg_R f k S → sg_R f k (S.drop j) := by
  intro j
  induction j with
  | zero => intro S h; exact h
  | succ j ih =>
    intro S h
    cases S with
    | nil => exact h
    | cons a T => exact ih h.2
theorem xm_drop {k q : Nat} (hk : k ≤ S.length) (h : xm_R s m st (p, S, R, I, O, W)) : xm_R s ((gm_status m, nI q, nI (S.length - k), gm_returnSize m, gm_inputSize m, gm_outputSize m, gm_changedPages m, gm_stack m, gm_returns m, gm_words m, gm_inputs m, gm_outs m)) st (q, S.drop k, R, I, O, W) := by
  obtain ⟨⟨h0, h1, h2, h3, h4, h5, hs, hr, hi, ho, hw⟩, hch⟩ := h
  refine ⟨⟨h0, rfl, ?_, h3, h4, h5, sg_drop k hs, hr, hi, ho, hw⟩, hch⟩
  show nI (S.length - k) = nI (S.drop k).length
  rw [List.length_drop]
theorem xm_pc {q : Nat} (h : xm_R s m st (p, S, R, I, O, W)) : xm_R s ((gm_status m, nI q, gm_stackSize m, gm_returnSize m, gm_inputSize m, gm_outputSize m, gm_changedPages m, gm_stack m, gm_returns m, gm_words m, gm_inputs m, gm_outs m)) st (q, S, R, I, O, W) := by
  obtain ⟨⟨h0, h1, h2, h3, h4, h5, hs, hr, hi, ho, hw⟩, hch⟩ := h
  exact ⟨⟨h0, rfl, h2, h3, h4, h5, hs, hr, hi, ho, hw⟩, hch⟩
theorem xm_st {q : Int32} {A : am_T} (h : xm_R s m st A) : xm_R s ((q, gm_at m, gm_stackSize m, gm_returnSize m, gm_inputSize m, gm_outputSize m, gm_changedPages m, gm_stack m, gm_returns m, gm_words m, gm_inputs m, gm_outs m)) q A := by
  obtain ⟨⟨h0, h1, h2, h3, h4, h5, hs, hr, hi, ho, hw⟩, hch⟩ := h
  exact ⟨⟨rfl, h1, h2, h3, h4, h5, hs, hr, hi, ho, hw⟩, hch⟩
theorem xs_shuffle {post : SX → Prop} {op : Nat} {n a' b' : Int32} (hop : op ≤ 4) (hS : S.length + am_gv op ≤ 16) (h : xm_R s m st (p, S, R, I, O, W)) (K : ∀ m', xm_R s m' st (p, am_pu op n a' b' I W ++ S, R, I, O, W) → post (mk_S c m' e b x d)) : wpX_shuffle post (mk_S c m e b x d) (nI op) n b' a' := by
  have hc : op = 0 ∨ op = 1 ∨ op = 2 ∨ op = 3 ∨ op = 4 := by omega
  rcases hc with rfl | rfl | rfl | rfl | rfl
  · rw [show am_gv 0 = 1 from rfl] at hS
    (repeat (first | refine br_t (by decide) ?_ | refine br_f (by decide) ?_))
    exact xw_push n (by omega) h K
  · (repeat (first | refine br_t (by decide) ?_ | refine br_f (by decide) ?_))
    exact K m h
  · rw [show am_gv 2 = 2 from rfl] at hS
    (repeat (first | refine br_t (by decide) ?_ | refine br_f (by decide) ?_))
    refine xw_push a' (by omega) h (fun m1 h1 => ?_)
    exact xw_push (c := c) (m := m1) (e := e) (b := b) (x := x) (d := d) a' (by rw [List.length_cons]; omega) h1 K
  · rw [show am_gv 3 = 2 from rfl] at hS
    (repeat (first | refine br_t (by decide) ?_ | refine br_f (by decide) ?_))
    refine xw_push a' (by omega) h (fun m1 h1 => ?_)
    exact xw_push (c := c) (m := m1) (e := e) (b := b) (x := x) (d := d) b' (by rw [List.length_cons]; omega) h1 K
  · rw [show am_gv 4 = 3 from rfl] at hS
    (repeat (first | refine br_t (by decide) ?_ | refine br_f (by decide) ?_))
    refine xw_push b' (by omega) h (fun m1 h1 => ?_)
    refine xw_push (c := c) (m := m1) (e := e) (b := b) (x := x) (d := d) a' (by rw [List.length_cons]; omega) h1 (fun m2 h2 => ?_)
    exact xw_push (c := c) (m := m2) (e := e) (b := b) (x := x) (d := d) b' (by rw [List.length_cons, List.length_cons]; omega) h2 K
theorem xs_reach {post : SX → Prop} {op : Nat} {n a' b' : Int32} (h1 : 14 ≤ op) (h2 : op ≤ 17) (hn : am_num op n) (ha : op = 14 ∨ op = 15 → 0 ≤ a' ∧ a' < 64) (hS : S.length + am_gv op ≤ 16) (h : xm_R s m st (p, S, R, I, O, W))
    (K : ∀ m', xm_R s m' st (p, am_pu op n a' b' I W ++ S, R, I, O, (if op = 15 then upd W a'.toNatClampNeg b' else if op = 17 then upd W n.toNatClampNeg a' else W)) → post (mk_S c m' e b x d)) : wpX_reach post (mk_S c m e b x d) (nI op) n b' a' := by
  have hc : op = 14 ∨ op = 15 ∨ op = 16 ∨ op = 17 := by omega
  rcases hc with rfl | rfl | rfl | rfl
  · rw [show am_gv 14 = 1 from rfl] at hS
    have h3' := ha (Or.inl rfl)
    obtain ⟨j, hj, rfl⟩ := nI_of (x := a') (Int32.not_lt.mpr h3'.1)
    have hj2 : j < 64 := (nI_ltI hj (by decide)).mp h3'.2
    (repeat (first | refine br_t (by decide) ?_ | refine br_f (by decide) ?_))
    refine And.intro (pk_in j 64 hj2) ?_
    have e1 : gm_words m (nI j).toNatClampNeg = W (nI j).toNatClampNeg := by rw [pk_cl j]; exact h.1.2.2.2.2.2.2.2.2.2.2 j hj2
    refine xw_push (gm_words m (nI j).toNatClampNeg) (by omega) h (fun m1 h1 => K m1 ?_)
    rw [e1] at h1
    exact h1
  · have h3' := ha (Or.inr rfl)
    obtain ⟨j, hj, rfl⟩ := nI_of (x := a') (Int32.not_lt.mpr h3'.1)
    have hj2 : j < 64 := (nI_ltI hj (by decide)).mp h3'.2
    (repeat (first | refine br_t (by decide) ?_ | refine br_f (by decide) ?_))
    refine xw_write j b' hj2 h (fun m1 h1 => K m1 ?_)
    rw [if_pos rfl, pk_cl j]
    exact h1
  · rw [show am_gv 16 = 1 from rfl] at hS
    obtain ⟨j, hj, rfl⟩ := hn.1 (Or.inl rfl)
    (repeat (first | refine br_t (by decide) ?_ | refine br_f (by decide) ?_))
    refine And.intro (pk_in j 64 hj) ?_
    have e1 : gm_words m (nI j).toNatClampNeg = W (nI j).toNatClampNeg := by rw [pk_cl j]; exact h.1.2.2.2.2.2.2.2.2.2.2 j hj
    refine xw_push (gm_words m (nI j).toNatClampNeg) (by omega) h (fun m1 h1 => K m1 ?_)
    rw [e1] at h1
    exact h1
  · obtain ⟨j, hj, rfl⟩ := hn.1 (Or.inr rfl)
    (repeat (first | refine br_t (by decide) ?_ | refine br_f (by decide) ?_))
    refine xw_write j a' hj h (fun m1 h1 => K m1 ?_)
    rw [if_neg (by decide), if_pos rfl, pk_cl j]
    exact h1
theorem xs_in123 {post : SX → Prop} {k : Nat} (hk : k ≤ 9) : ∀ (dd i : Nat) (m : ty_M), i + dd = k → gm_inputSize m = nI k →
    (∀ f, (∀ j, i ≤ j → j < k → f j = gm_inputs m (j + 1)) → (∀ j, j < i → f j = gm_inputs m j) → post (mk_S c ((gm_status m, gm_at m, gm_stackSize m, gm_returnSize m, gm_inputSize m, gm_outputSize m, gm_changedPages m, gm_stack m, gm_returns m, gm_words m, f, gm_outs m)) e b x d)) →
    lo_turn_123 post (dd + 1) (nI i) c m e b x d := by
  intro dd
  induction dd with
  | zero =>
    intro i m hi h4 K
    refine br_t ?_ (K (gm_inputs m) (fun j a b => by omega) (fun j _ => rfl))
    show gm_inputSize m ≤ nI i
    rw [h4]; exact nI_le (by omega) (by omega)
  | succ dd ih =>
    intro i m hi h4 K
    have h4' : ¬ gm_inputSize m ≤ nI i := by rw [h4]; exact nI_ge (by omega) (by omega)
    refine br_f h4' (And.intro (pk_in (i + 1) 10 (by omega) (nI_1 i)) (And.intro (pk_in i 10 (by omega)) (nm_r (e' := upd (gm_inputs m) i (gm_inputs m (i + 1))) ?_ (nm_r (e' := nI (i + 1)) (nI_1 i) ?_))))
    · show upd (gm_inputs m) (nI i).toNatClampNeg (gm_inputs m (nI i + 1).toNatClampNeg) = _
      rw [pk_cl (i + 1) (nI_1 i), pk_cl i]
    · refine ih (i + 1) ((gm_status m, gm_at m, gm_stackSize m, gm_returnSize m, gm_inputSize m, gm_outputSize m, gm_changedPages m, gm_stack m, gm_returns m, gm_words m, upd (gm_inputs m) i (gm_inputs m (i + 1)), gm_outs m)) (by omega) h4 (fun f p1 p2 => K f (fun j q1 q2 => ?_) (fun j q1 => ?_))
      · by_cases e : j = i
        · subst e
          have := p2 j (by omega)
          rw [this]; exact pk_us
        · have := p1 j (by omega) q2
          rw [this]; exact pk_un (by omega)
      · have := p2 j (by omega)
        rw [this]; exact pk_un (by omega)
theorem xs_turn {post : SX → Prop} {op : Nat} {n a' b' : Int32} {q : Nat} (h1 : 18 ≤ op) (h2 : op ≤ 24) (hq : q < 40) (hn : am_num op n) (ok : am_ok (q, S, R, I, O, W)) (h22 : op = 22 → S.length < 16 ∧ ¬ I.length = 0) (h20 : op = 20 → R.length < 8) (h21 : op = 21 → ¬ R.length = 0) (h23 : op = 23 → O.length < 20)
    (h : xm_R s m 1 (q + 1, S, R, I, O, W))
    (K : ∀ m', xm_R s m' (am_st op) (am_pc op n a' q R, am_pu op n a' b' I W ++ S, (if op = 20 then (q + 1) :: R else if op = 21 then R.tail else R), (if op = 22 then I.tail else I), (if op = 23 then a' :: O else O), W) → post (mk_S c m' e b x d)) : wpX_turn post (mk_S c m e b x d) (nI op) n a' := by
  have hc : op = 18 ∨ op = 19 ∨ op = 20 ∨ op = 21 ∨ op = 22 ∨ op = 23 ∨ op = 24 := by omega
  obtain ⟨o0, o1, o2, o3, o4, o5⟩ := ok
  dsimp only at o0 o1 o2 o3 o4 o5
  have hx := h
  obtain ⟨⟨g0, g1, g2, g3, g4, g5, gs, gr, gi, go, gw⟩, hch⟩ := hx
  dsimp only at g0 g1 g2 g3 g4 g5 gs gr gi go gw
  rcases hc with rfl | rfl | rfl | rfl | rfl | rfl | rfl
  · obtain ⟨j, hj, rfl⟩ := hn.2 (Or.inl rfl)
    (repeat (first | refine br_t (by decide) ?_ | refine br_f (by decide) ?_))
    refine K ((gm_status m, nI j, gm_stackSize m, gm_returnSize m, gm_inputSize m, gm_outputSize m, gm_changedPages m, gm_stack m, gm_returns m, gm_words m, gm_inputs m, gm_outs m)) ?_
    rw [show am_pc 18 (nI j) a' q R = (nI j).toNatClampNeg from rfl, pk_cl j]
    exact xm_pc h
  · obtain ⟨j, hj, rfl⟩ := hn.2 (Or.inr (Or.inl rfl))
    rw [show am_pc 19 (nI j) a' q R = if a' = 0 then (nI j).toNatClampNeg else q + 1 from rfl, pk_cl j] at K
    (repeat (first | refine br_t (by decide) ?_ | refine br_f (by decide) ?_))
    refine br_c (fun z => ?_) (fun z => ?_)
    · rw [if_pos z] at K
      exact K ((gm_status m, nI j, gm_stackSize m, gm_returnSize m, gm_inputSize m, gm_outputSize m, gm_changedPages m, gm_stack m, gm_returns m, gm_words m, gm_inputs m, gm_outs m)) (xm_pc h)
    · rw [if_neg z] at K
      (repeat (first | refine br_t (by decide) ?_ | refine br_f (by decide) ?_))
      exact K m h
  · obtain ⟨j, hj, rfl⟩ := hn.2 (Or.inr (Or.inr rfl))
    rw [show am_pc 20 (nI j) a' q R = (nI j).toNatClampNeg from rfl, pk_cl j] at K
    have hR := h20 rfl
    (repeat (first | refine br_t (by decide) ?_ | refine br_f (by decide) ?_))
    refine And.intro (pk_in R.length 8 hR g3) (nm_r (e' := upd (gm_returns m) R.length (nI (q + 1))) ?_ (nm_r (e' := nI (R.length + 1)) ?_ ?_))
    · show upd (gm_returns m) (gm_returnSize m).toNatClampNeg (vp_nar .byte (gm_at m).toInt8.toInt32) = _
      rw [pk_cl R.length g3, g1, pk_vb, wi_b (by omega)]
    · show gm_returnSize m + 1 = _
      rw [g3, nI_1]
    · have em : (R.map nI).length = R.length := List.length_map _
      refine K ((gm_status m, nI j, gm_stackSize m, nI (R.length + 1), gm_inputSize m, gm_outputSize m, gm_changedPages m, gm_stack m, upd (gm_returns m) R.length (nI (q + 1)), gm_words m, gm_inputs m, gm_outs m)) ⟨⟨g0, rfl, g2, rfl, g4, g5, gs, ?_, gi, go, gw⟩, hch⟩
      refine sg_push (f := gm_returns m) (k := 0) (fun i hi => ?_) ?_ gr
      · exact pk_un (by omega)
      · show upd (gm_returns m) R.length (nI (q + 1)) (0 + (R.map nI).length) = _
        rw [em, Nat.zero_add, pk_us]
  · cases R with
    | nil => exact absurd rfl (h21 rfl)
    | cons r R =>
      have em : (R.map nI).length = R.length := List.length_map _
      rw [List.length_cons] at g3 o2
      have hv : gm_returns m (0 + (R.map nI).length) = nI r := gr.1
      rw [em, Nat.zero_add] at hv
      (repeat (first | refine br_t (by decide) ?_ | refine br_f (by decide) ?_))
      refine nm_r (e' := nI R.length) ?_ (And.intro (pk_in R.length 8 (by omega)) (nm_r (e' := nI r) ?_ ?_))
      · show gm_returnSize m - 1 = _
        rw [g3, nI_pred]
      · show gm_returns m (nI R.length).toNatClampNeg = _
        rw [pk_cl R.length]; exact hv
      · exact K ((gm_status m, nI r, gm_stackSize m, nI R.length, gm_inputSize m, gm_outputSize m, gm_changedPages m, gm_stack m, gm_returns m, gm_words m, gm_inputs m, gm_outs m)) ⟨⟨g0, rfl, g2, rfl, g4, g5, gs, gr.2, gi, go, gw⟩, hch⟩
  · cases I with
    | nil => exact absurd rfl (h22 rfl).2
    | cons v I =>
      rw [List.length_cons] at o3
      (repeat (first | refine br_t (by decide) ?_ | refine br_f (by decide) ?_))
      have e0 : gm_inputs m 0 = v := gi.1
      refine xw_push (gm_inputs m 0) (h22 rfl).1 h (fun m1 k1 => ?_)
      rw [e0] at k1
      obtain ⟨⟨k0, k1, k2, k3, k4, k5, ks, kr, ki, ko, kw⟩, kch⟩ := k1
      dsimp only at k0 k1 k2 k3 k4 k5 ks kr ki ko kw
      rw [List.length_cons] at k4
      refine nm_r (e' := nI I.length) ?_ ⟨I.length + 1, ?_⟩
      · show gm_inputSize m1 - 1 = _
        rw [k4, nI_pred]
      · refine xs_in123 (c := c) (e := e) (b := b) (x := x) (d := d) (k := I.length) (by omega) I.length 0 ((gm_status m1, gm_at m1, gm_stackSize m1, gm_returnSize m1, nI I.length, gm_outputSize m1, gm_changedPages m1, gm_stack m1, gm_returns m1, gm_words m1, gm_inputs m1, gm_outs m1)) (by omega) rfl (fun f p1 p2 => ?_)
        refine K ((gm_status m1, gm_at m1, gm_stackSize m1, gm_returnSize m1, nI I.length, gm_outputSize m1, gm_changedPages m1, gm_stack m1, gm_returns m1, gm_words m1, f, gm_outs m1)) ⟨⟨k0, k1, k2, k3, rfl, k5, ks, kr, ?_, ko, kw⟩, kch⟩
        refine qu_mv (f := gm_inputs m1) (k := 0 + 1) (k' := 0) (fun i hi => ?_) ki.2
        have := p1 i (by omega) hi
        show f (0 + i) = gm_inputs m1 (0 + 1 + i)
        rw [Nat.zero_add, show 0 + 1 + i = i + 1 by omega]
        exact this
  · have hO := h23 rfl
    (repeat (first | refine br_t (by decide) ?_ | refine br_f (by decide) ?_))
    refine And.intro (pk_in O.length 20 hO g5) (nm_r (e' := upd (gm_outs m) O.length a') ?_ (nm_r (e' := nI (O.length + 1)) ?_ ?_))
    · show upd (gm_outs m) (gm_outputSize m).toNatClampNeg a' = _
      rw [pk_cl O.length g5]
    · show gm_outputSize m + 1 = _
      rw [g5, nI_1]
    · refine K ((gm_status m, gm_at m, gm_stackSize m, gm_returnSize m, gm_inputSize m, nI (O.length + 1), gm_changedPages m, gm_stack m, gm_returns m, gm_words m, gm_inputs m, upd (gm_outs m) O.length a')) ⟨⟨g0, g1, g2, g3, g4, rfl, gs, gr, gi, ?_, gw⟩, hch⟩
      refine sg_push (f := gm_outs m) (k := 0) (fun i hi => ?_) ?_ go
      · exact pk_un (by omega)
      · show upd (gm_outs m) O.length a' (0 + O.length) = _
        rw [Nat.zero_add, pk_us]
  · (repeat (first | refine br_t (by decide) ?_ | refine br_f (by decide) ?_))
    refine nm_r (e' := nI q) ?_ ?_
    · show gm_at m - 1 = _
      rw [g1, nI_pred]
    · exact K ((2, nI q, gm_stackSize m, gm_returnSize m, gm_inputSize m, gm_outputSize m, gm_changedPages m, gm_stack m, gm_returns m, gm_words m, gm_inputs m, gm_outs m)) ⟨⟨rfl, rfl, g2, g3, g4, g5, gs, gr, gi, go, gw⟩, hch⟩
end XS
end
section
/-- the code of the component -/
def cx_R (c : ty_C) (sz : Nat) (op : Nat → Nat) (num : Nat → Int32) : Prop :=
  gc_size c = nI sz ∧ (∀ i, i < sz → gc_ops c i = nI (op i)) ∧ (∀ i, i < sz → (op i = 0 ∨ op i = 16 ∨ op i = 17 ∨ op i = 18 ∨ op i = 19 ∨ op i = 20) → gc_numbers c i = num i)
theorem am_go_n {op : Nat} {n n' : Int32} {A : am_T} (hop : op ≤ 24) (h : (op = 0 ∨ op = 16 ∨ op = 17 ∨ op = 18 ∨ op = 19 ∨ op = 20) → n' = n) : am_go op n' A = am_go op n A := by
  by_cases hu : op = 0 ∨ op = 16 ∨ op = 17 ∨ op = 18 ∨ op = 19 ∨ op = 20
  · rw [h hu]
  · have h0 : ¬ op = 0 := by omega
    have h16 : ¬ op = 16 := by omega
    have h17 : ¬ op = 17 := by omega
    have h18 : ¬ op = 18 := by omega
    have h19 : ¬ op = 19 := by omega
    have h20 : ¬ op = 20 := by omega
    simp only [am_go, am_pc, am_pu, h0, h16, h17, h18, h19, h20, if_false, or_self]
theorem am_num_n {op : Nat} {n n' : Int32} (h : (op = 0 ∨ op = 16 ∨ op = 17 ∨ op = 18 ∨ op = 19 ∨ op = 20) → n' = n) (hn : am_num op n) : am_num op n' := by
  constructor
  · intro e; rw [h (by omega)]; exact hn.1 e
  · intro e; rw [h (by omega)]; exact hn.2 e
section XS
variable {s : Nat → Int32} {c : ty_C} {m : ty_M} {e : ty_E} {b : ty_B} {x : ty_X} {d : ty_D} {st : Int32} {p : Nat} {S : List Int32} {R : List Nat} {I O : List Int32} {W : Nat → Int32}
theorem xs_123 {post : Int32 → SX → Prop} {op : Nat} {n : Int32} (hop : op ≤ 24) (hp : p < 40) (hn : am_num op n) (ok : am_ok (p, S, R, I, O, W)) (hc : am_can op (p, S, R, I, O, W)) (h : xm_R s m 1 (p, S, R, I, O, W))
    (K : ∀ m', xm_R s m' (am_st op) (am_go op n (p, S, R, I, O, W)) → post 1 (mk_S c m' e b x d)) : lo_singleStep_123 post (nI op) n (S.headD 0) (S.tail.headD 0) c m e b x d := by
  obtain ⟨h1, h2, h3, h4, h5, h6, h7, h8⟩ := hc
  have okk := ok
  obtain ⟨o0, o1, o2, o3, o4, o5⟩ := ok
  dsimp only at h1 h2 h3 h4 h5 h6 h7 h8 o0 o1 o2 o3 o4 o5
  have hd := xm_drop (q := p + 1) h1 h
  have hl : (S.drop (am_tk op)).length = S.length - am_tk op := List.length_drop ..
  unfold lo_singleStep_123 wX_singleStep_123
  refine xw_takes hop ?_
  refine nm_r (e' := nI (S.length - am_tk op)) ?_ (nm_r (e' := nI (p + 1)) ?_ ?_)
  · show gm_stackSize m - nI (am_tk op) = _
    rw [h.1.2.2.1, pk_sub h1]
  · show gm_at m + 1 = _
    rw [h.1.2.1, nI_1]
  · refine pk_lt 4 op (fun g4 => pk_lt 13 op (fun g13 => pk_lt 17 op (fun g17 => ?_) (fun g17 => ?_)) (fun g13 => ?_)) (fun g4 => ?_)
    · refine xs_turn (m := (gm_status m, nI (p + 1), nI (S.length - am_tk op), gm_returnSize m, gm_inputSize m, gm_outputSize m, gm_changedPages m, gm_stack m, gm_returns m, gm_words m, gm_inputs m, gm_outs m)) (b' := S.tail.headD 0) g17 hop hp hn ⟨o0, ?_, o2, o3, o4, o5⟩ (fun e22 => ⟨?_, h4 e22⟩) h6 h7 h8 hd (fun m' h' => K m' ?_)
      · show (S.drop (am_tk op)).length ≤ 16
        omega
      · subst e22
        rw [show am_gv 22 = 1 from rfl] at h5
        omega
      · have eg : am_go op n (p, S, R, I, O, W) = (am_pc op n (S.headD 0) p R, am_pu op n (S.headD 0) (S.tail.headD 0) I W ++ S.drop (am_tk op), (if op = 20 then (p + 1) :: R else if op = 21 then R.tail else R), (if op = 22 then I.tail else I), (if op = 23 then S.headD 0 :: O else O), W) := by
          unfold am_go
          dsimp only
          rw [if_neg (show ¬ op = 15 by omega), if_neg (show ¬ op = 17 by omega)]
        rw [eg]; exact h'
    · refine xs_reach (m := (gm_status m, nI (p + 1), nI (S.length - am_tk op), gm_returnSize m, gm_inputSize m, gm_outputSize m, gm_changedPages m, gm_stack m, gm_returns m, gm_words m, gm_inputs m, gm_outs m)) g13 g17 hn h3 (by rw [hl]; omega) hd (fun m' h' => K m' ?_)
      have eg : am_go op n (p, S, R, I, O, W) = (p + 1, am_pu op n (S.headD 0) (S.tail.headD 0) I W ++ S.drop (am_tk op), R, I, O, (if op = 15 then upd W (S.headD 0).toNatClampNeg (S.tail.headD 0) else if op = 17 then upd W n.toNatClampNeg (S.headD 0) else W)) := by
        unfold am_go am_pc
        dsimp only
        rw [if_neg (show ¬ (op = 18 ∨ op = 20) by omega), if_neg (show ¬ op = 19 by omega), if_neg (show ¬ op = 21 by omega), if_neg (show ¬ op = 24 by omega), if_neg (show ¬ op = 20 by omega), if_neg (show ¬ op = 21 by omega), if_neg (show ¬ op = 22 by omega), if_neg (show ¬ op = 23 by omega)]
      have es : am_st op = 1 := if_neg (by omega)
      rw [eg, es]; exact h'
    · refine xw_val (by omega) (by omega) ?_
      refine xw_push (m := (gm_status m, nI (p + 1), nI (S.length - am_tk op), gm_returnSize m, gm_inputSize m, gm_outputSize m, gm_changedPages m, gm_stack m, gm_returns m, gm_words m, gm_inputs m, gm_outs m)) (am_val op (S.tail.headD 0) (S.headD 0)) ?_ hd (fun m' h' => K m' ?_)
      · have : am_gv op = 1 := by unfold am_gv; rw [if_neg (by omega), if_neg (by omega), if_pos (by omega)]
        rw [hl]; omega
      · have eg : am_go op n (p, S, R, I, O, W) = (p + 1, am_val op (S.tail.headD 0) (S.headD 0) :: S.drop (am_tk op), R, I, O, W) := by
          unfold am_go am_pc am_pu
          dsimp only
          rw [if_neg (show ¬ (op = 18 ∨ op = 20) by omega), if_neg (show ¬ op = 19 by omega), if_neg (show ¬ op = 21 by omega), if_neg (show ¬ op = 24 by omega), if_neg (show ¬ op = 0 by omega), if_neg (show ¬ op = 2 by omega), if_neg (show ¬ op = 3 by omega), if_neg (show ¬ op = 4 by omega), if_neg (show ¬ op = 14 by omega), if_neg (show ¬ op = 16 by omega), if_neg (show ¬ op = 22 by omega), if_pos (show 5 ≤ op ∧ op ≤ 13 by omega), if_neg (show ¬ op = 20 by omega), if_neg (show ¬ op = 21 by omega), if_neg (show ¬ op = 22 by omega), if_neg (show ¬ op = 23 by omega), if_neg (show ¬ op = 15 by omega), if_neg (show ¬ op = 17 by omega)]
          rfl
        have es : am_st op = 1 := if_neg (by omega)
        rw [eg, es]; exact h'
    · refine xs_shuffle (m := (gm_status m, nI (p + 1), nI (S.length - am_tk op), gm_returnSize m, gm_inputSize m, gm_outputSize m, gm_changedPages m, gm_stack m, gm_returns m, gm_words m, gm_inputs m, gm_outs m)) (by omega) (by rw [hl]; omega) hd (fun m' h' => K m' ?_)
      have eg : am_go op n (p, S, R, I, O, W) = (p + 1, am_pu op n (S.headD 0) (S.tail.headD 0) I W ++ S.drop (am_tk op), R, I, O, W) := by
        unfold am_go am_pc
        dsimp only
        rw [if_neg (show ¬ (op = 18 ∨ op = 20) by omega), if_neg (show ¬ op = 19 by omega), if_neg (show ¬ op = 21 by omega), if_neg (show ¬ op = 24 by omega), if_neg (show ¬ op = 20 by omega), if_neg (show ¬ op = 21 by omega), if_neg (show ¬ op = 22 by omega), if_neg (show ¬ op = 23 by omega), if_neg (show ¬ op = 15 by omega), if_neg (show ¬ op = 17 by omega)]
      have es : am_st op = 1 := if_neg (by omega)
      rw [eg, es]; exact h'
theorem xs_98 {post : Int32 → SX → Prop} {x1 x3 : Int32} (hs : sg_R (gm_stack m) 0 S) (h2 : gm_stackSize m = nI S.length) (o1 : S.length ≤ 16) (K : lo_singleStep_123 post x1 x3 (S.headD 0) (S.tail.headD 0) c m e b x d) : lo_singleStep_98 post x1 x3 (S.headD 0) c m e b x d := by
  refine pk_le S.length 1 (fun z => ?_) (fun z => ?_) h2
  · have e0 : S.tail.headD 0 = 0 := by
      cases S with
      | nil => rfl
      | cons a T =>
        cases T with
        | nil => rfl
        | cons a2 T => rw [List.length_cons, List.length_cons] at z; omega
    rw [e0] at K
    exact K
  · have e1 : gm_stackSize m - 2 = nI (S.length - 2) := by rw [h2]; exact pk_sub (b := 2) (by omega)
    have e2 : gm_stack m (gm_stackSize m - 2).toNatClampNeg = S.tail.headD 0 := by rw [pk_cl (S.length - 2) e1]; exact sg_2nd hs z
    refine And.intro (pk_in (S.length - 2) 16 (by omega) e1) ?_
    rw [← e2] at K
    exact K
theorem xs_single {post : Int32 → SX → Prop} {sz : Nat} {op : Nat → Nat} {num : Nat → Int32} {A : am_T} (hcode : am_code sz op num) (hC : cx_R c sz op num) (ok : am_ok A) (h : xm_R s m 1 A)
    (K4 : sz ≤ A.1 → ∀ m', xm_R s m' 4 A → post 0 (mk_S c m' e b x d))
    (K0 : A.1 < sz → ¬ am_hi (op A.1) A = 1 → ∀ m', xm_R s m' (am_hi (op A.1) A) A → post 0 (mk_S c m' e b x d))
    (K1 : A.1 < sz → am_hi (op A.1) A = 1 → ∀ m', xm_R s m' (am_st (op A.1)) (am_go (op A.1) (num A.1) A) → post 1 (mk_S c m' e b x d)) : wpX_singleStep post (mk_S c m e b x d) := by
  obtain ⟨hz, ho, hnu⟩ := hC
  obtain ⟨p, S, R, I, O, W⟩ := A
  have hx := h
  obtain ⟨⟨g0, g1, g2, g3, g4, g5, gs, gr, gi, go, gw⟩, hch⟩ := hx
  have okk := ok
  obtain ⟨o0, o1, o2, o3, o4, o5⟩ := ok
  dsimp only at g0 g1 g2 g3 g4 g5 gs gr gi go gw o0 o1 o2 o3 o4 o5 K4 K0 K1
  have hsz := hcode.1
  refine pk_lt p sz (fun hlt => ?_) (fun hge => ?_) g1 hz
  · have hcp := hcode.2 p hlt
    refine And.intro (pk_in p 40 (by omega) g1) (nm_r (e' := nI (op p)) ?_ ?_)
    · show gc_ops c (gm_at m).toNatClampNeg = _
      rw [pk_cl p g1]; exact ho p hlt
    · have h48 : ¬ (op p = 22 ∧ I.length = 0) → lo_singleStep_48 post (nI (op p)) c m e b x d := by
        intro hin
        refine xt_main hcp.1 okk h.1 hin ?_
        refine br_c (fun z => ?_) (fun z => K0 hlt z _ (xm_st h))
        have hcan := am_hi_can z
        refine And.intro (pk_in p 40 (by omega) g1) (nm_e ?_)
        have en : gc_numbers c (gm_at m).toNatClampNeg = gc_numbers c p := by rw [pk_cl p g1]
        have h123 := xs_123 (c := c) (e := e) (b := b) (x := x) (d := d) (n := gc_numbers c p) (post := post) hcp.1 (by omega) (am_num_n (hnu p hlt) hcp.2) okk hcan h (fun m' h' => K1 hlt z m' (by rw [am_go_n hcp.1 (hnu p hlt)] at h'; exact h'))
        rw [← en] at h123
        have h98 := xs_98 (c := c) (e := e) (b := b) (x := x) (d := d) gs g2 o1 h123
        refine pk_le S.length 0 (fun y => ?_) (fun y => ?_) g2
        · have e0 : S.headD 0 = 0 := by
            cases S with
            | nil => rfl
            | cons a T => rw [List.length_cons] at y; omega
          rw [e0] at h98
          exact h98
        · have e1 : gm_stackSize m - 1 = nI (S.length - 1) := by rw [g2]; exact pk_sub (b := 1) (by omega)
          have e2 : gm_stack m (gm_stackSize m - 1).toNatClampNeg = S.headD 0 := by rw [pk_cl (S.length - 1) e1]; exact sg_top gs y
          refine And.intro (pk_in (S.length - 1) 16 (by omega) e1) ?_
          rw [← e2] at h98
          exact h98
      refine pk_eq (op p) 22 (fun e22 => ?_) (fun e22 => h48 (fun q => e22 q.1))
        (hx := rfl) (hy := rfl) (ha := by have := hcp.1; omega) (hb := by omega)
      refine pk_eq I.length 0 (fun y => ?_) (fun y => h48 (fun q => y q.2)) g4
      have ehi : am_hi (op p) (p, S, R, I, O, W) = 3 := by
        unfold am_hi
        dsimp only
        rw [e22, if_neg (by rw [show am_tk 22 = 0 from rfl]; omega), if_neg (by omega), if_neg (by omega), if_pos ⟨rfl, y⟩]
      have hk := K0 hlt (by rw [ehi]; decide) _ (xm_st h)
      rw [ehi] at hk
      exact hk
  · exact K4 hge _ (xm_st h)
end XS
end
section
/-! the translator, in plain words: operands, a stack of operands, micros -/
abbrev ty_G : Type := Nat → Nat × Nat × Nat × Nat
/-- the value of an operand -/
def tv_v (K old tmp : Nat → Int32) (o : Nat) : Int32 := if o < 2000 then (if o < 1000 then K o else old (o - 1000)) else tmp (o - 2000)
def tv_old (S : List Int32) : Nat → Int32 := fun k => S.getD k 0
def to_ok (nc tk tm o : Nat) : Prop := o < nc ∨ (1000 ≤ o ∧ o < 1000 + tk) ∨ (2000 ≤ o ∧ o < 2000 + tm)
def to_sum (q : Nat) : Prop := q = 5 ∨ q = 6 ∨ q = 7 ∨ q = 10 ∨ q = 11 ∨ q = 12 ∨ q = 13
theorem to_mono {nc tk tm nc' tk' tm' o : Nat} (h : to_ok nc tk tm o) (h1 : nc ≤ nc') (h2 : tk ≤ tk') (h3 : tm ≤ tm') : to_ok nc' tk' tm' o := by unfold to_ok at *; omega
/-- the top operand: of the new part, or the next one of the old stack -/
def tk_f (N : List Nat) (tk : Nat) : Nat × List Nat × Nat := match N with
  | [] => (1000 + tk, [], tk + 1)
  | o :: N => (o, N, tk)
theorem tk_f_nil (tk : Nat) : tk_f [] tk = (1000 + tk, [], tk + 1) := rfl
theorem tk_f_cons (o : Nat) (N : List Nat) (tk : Nat) : tk_f (o :: N) tk = (o, N, tk) := rfl
/-- what the stack of operands stands for -/
def tv_S (v : Nat → Int32) (S0 : List Int32) (N : List Nat) (tk : Nat) : List Int32 := N.map v ++ S0.drop tk
theorem tv_S_cons (v : Nat → Int32) (S0 : List Int32) (o : Nat) (N : List Nat) (tk : Nat) : tv_S v S0 (o :: N) tk = v o :: tv_S v S0 N tk := rfl
theorem tv_S_len {v : Nat → Int32} {S0 : List Int32} {N : List Nat} {tk : Nat} : (tv_S v S0 N tk).length = N.length + (S0.length - tk) := by
  unfold tv_S; rw [List.length_append, List.length_map, List.length_drop]
theorem tv_take {K tmp : Nat → Int32} {S0 : List Int32} {N : List Nat} {tk : Nat} (h : (tk_f N tk).2.2 ≤ S0.length) (h2 : tk < 900) :
    tv_S (tv_v K (tv_old S0) tmp) S0 N tk = tv_v K (tv_old S0) tmp (tk_f N tk).1 :: tv_S (tv_v K (tv_old S0) tmp) S0 (tk_f N tk).2.1 (tk_f N tk).2.2 := by
  cases N with
  | cons o N => rfl
  | nil =>
    have h' : tk < S0.length := h
    have e : tv_v K (tv_old S0) tmp (1000 + tk) = S0[tk] := by
      unfold tv_v tv_old
      rw [if_pos (by omega), if_neg (by omega), show 1000 + tk - 1000 = tk by omega, List.getD_eq_getElem?_getD, List.getElem?_eq_getElem h']
      rfl
    show [] ++ S0.drop tk = tv_v K (tv_old S0) tmp (1000 + tk) :: ([] ++ S0.drop (tk + 1))
    rw [e, List.nil_append, List.nil_append, List.drop_eq_getElem_cons h']
theorem tk_f_len {N : List Nat} {tk : Nat} : (tk_f N tk).2.1.length ≤ N.length ∧ tk ≤ (tk_f N tk).2.2 ∧ (tk_f N tk).2.2 ≤ tk + 1 ∧ (tk_f N tk).2.1.length + tk + 1 = N.length + (tk_f N tk).2.2 := by
  cases N with
  | nil => refine ⟨Nat.le_refl _, ?_, ?_, ?_⟩ <;> rw [tk_f_nil] <;> dsimp only <;> (try rw [List.length_nil]) <;> omega
  | cons o N => refine ⟨?_, ?_, ?_, ?_⟩ <;> rw [tk_f_cons] <;> dsimp only <;> (try rw [List.length_cons]) <;> omega
theorem tk_f_ok {nc tk tm : Nat} {N : List Nat} (h : ∀ o, o ∈ N → to_ok nc tk tm o) : to_ok nc (tk_f N tk).2.2 tm (tk_f N tk).1 ∧ ∀ o, o ∈ (tk_f N tk).2.1 → to_ok nc (tk_f N tk).2.2 tm o := by
  cases N with
  | nil => exact ⟨Or.inr (Or.inl ⟨by rw [tk_f_nil]; dsimp only; omega, by rw [tk_f_nil]; dsimp only; omega⟩), fun o ho => absurd ho (List.not_mem_nil)⟩
  | cons o N => exact ⟨h o (List.mem_cons_self ..), fun q hq => h q (List.mem_cons_of_mem _ hq)⟩
/-! micros: (operation, target, A, B) -/
def tb_n (G : ty_G) : Nat → Nat
  | 0 => 0
  | k + 1 => tb_n G k + (if (G k).1 = 17 then 0 else 1)
theorem tb_mono {G : ty_G} {j k : Nat} (h : j ≤ k) : tb_n G j ≤ tb_n G k := by
  induction k with
  | zero => rw [Nat.le_zero.mp h]; exact Nat.le_refl _
  | succ k ih =>
    by_cases e : j = k + 1
    · rw [e]; exact Nat.le_refl _
    · exact Nat.le_trans (ih (by omega)) (Nat.le_add_right _ _)
theorem tb_le {G : ty_G} {k : Nat} : tb_n G k ≤ k := by
  induction k with
  | zero => exact Nat.le_refl _
  | succ k ih => unfold tb_n; split <;> omega
theorem tb_lt {G : ty_G} {j k : Nat} (h : j < k) (hj : ¬ (G j).1 = 17) : tb_n G j < tb_n G k := by
  have h1 : tb_n G (j + 1) ≤ tb_n G k := tb_mono h
  rw [tb_n, if_neg hj] at h1
  omega
/-- every temporary value below tb_n G k is made by one of the first k micros -/
theorem tb_ex {G : ty_G} {t : Nat} : ∀ {k : Nat}, t < tb_n G k → ∃ j, j < k ∧ ¬ (G j).1 = 17 ∧ tb_n G j = t := by
  intro k
  induction k with
  | zero => intro h; exact absurd h (Nat.not_lt_zero _)
  | succ k ih =>
    intro h
    by_cases e : t < tb_n G k
    · obtain ⟨j, a, b⟩ := ih e; exact ⟨j, by omega, b⟩
    · rw [tb_n] at h
      by_cases e2 : (G k).1 = 17
      · rw [if_pos e2] at h; omega
      · rw [if_neg e2] at h; exact ⟨k, by omega, e2, by omega⟩
theorem tb_cg {G G' : ty_G} : ∀ {k : Nat}, (∀ j, j < k → G' j = G j) → tb_n G' k = tb_n G k := by
  intro k
  induction k with
  | zero => intro _; rfl
  | succ k ih => intro h; rw [tb_n, tb_n, ih (fun j hj => h j (by omega)), h k (by omega)]
/-- micro k of a block is well made -/
def mi_ok (G : ty_G) (nc tk k : Nat) : Prop :=
  ((G k).1 = 17 ∧ (G k).2.1 < 64 ∧ to_ok nc tk (tb_n G k) (G k).2.2.1) ∨
  ((G k).1 = 16 ∧ (G k).2.1 = 2000 + tb_n G k ∧ (G k).2.2.1 < 64 ∧ ∀ j, j < k → ¬ ((G j).1 = 17 ∧ (G j).2.1 = (G k).2.2.1)) ∨
  (to_sum (G k).1 ∧ (G k).2.1 = 2000 + tb_n G k ∧ to_ok nc tk (tb_n G k) (G k).2.2.1 ∧ to_ok nc tk (tb_n G k) (G k).2.2.2)
/-- the value that a micro makes is that of its temporary -/
def mi_eq (K old tmp W0 : Nat → Int32) (g : Nat × Nat × Nat × Nat) : Prop :=
  (g.1 = 16 → tmp (g.2.1 - 2000) = W0 g.2.2.1) ∧ (to_sum g.1 → tmp (g.2.1 - 2000) = am_val g.1 (tv_v K old tmp g.2.2.1) (tv_v K old tmp g.2.2.2))
/-- a word after the first k micros -/
def mi_ws (v : Nat → Int32) (W0 : Nat → Int32) (G : ty_G) : Nat → Nat → Int32
  | 0, n => W0 n
  | k + 1, n => if (G k).1 = 17 ∧ (G k).2.1 = n then v (G k).2.2.1 else mi_ws v W0 G k n
/-- what is known of a block's translation without running it -/
def ti_st (G : ty_G) (L nc tm tk pk : Nat) (N : List Nat) (WO : Nat → Option Nat) : Prop :=
  (∀ o, o ∈ N → to_ok nc tk tm o) ∧ (∀ n o, n < 64 → WO n = some o → to_ok nc tk tm o) ∧ (∀ k, k < L → mi_ok G nc tk k) ∧ tm = tb_n G L ∧
  (∀ n, n < 64 → WO n = none → ∀ k, k < L → ¬ ((G k).1 = 17 ∧ (G k).2.1 = n)) ∧ N.length ≤ pk + tk
/-- what is true of one run of it -/
def ti_f (K old tmp W0 : Nat → Int32) (S0 : List Int32) (G : ty_G) (L tk : Nat) (N : List Nat) (WO : Nat → Option Nat) (S : List Int32) (W : Nat → Int32) : Prop :=
  S = tv_S (tv_v K old tmp) S0 N tk ∧ (∀ k, k < L → mi_eq K old tmp W0 (G k)) ∧
  (∀ n, n < 64 → (WO n = none → W n = W0 n) ∧ ∀ o, WO n = some o → W n = tv_v K old tmp o) ∧ (∀ n, n < 64 → mi_ws (tv_v K old tmp) W0 G L n = W n)
def ti_sem (sz : Nat) (op : Nat → Nat) (num : Nat → Int32) (start p : Nat) (K : Nat → Int32) (G : ty_G) (L nc tk pk : Nat) (N : List Nat) (WO : Nat → Option Nat) : Prop :=
  ∀ K', (∀ i, i < nc → K' i = K i) → ∀ (S0 : List Int32) (R : List Nat) (I O : List Int32) (W0 : Nat → Int32), tk ≤ S0.length → S0.length + pk ≤ 16 →
    ∃ tmp S W, ti_f K' (tv_old S0) tmp W0 S0 G L tk N WO S W ∧ am_sN sz op num (p - start) (start, S0, R, I, O, W0) (p, S, R, I, O, W)
theorem tv_cg {K old tmp tmp' : Nat → Int32} {nc tk tm o : Nat} (hn : nc ≤ 1000) (hk : tk ≤ 900) (h : to_ok nc tk tm o) (ht : ∀ i, i < tm → tmp' i = tmp i) : tv_v K old tmp' o = tv_v K old tmp o := by
  unfold tv_v
  by_cases e : o < 2000
  · rw [if_pos e, if_pos e]
  · rw [if_neg e, if_neg e]
    exact ht _ (by unfold to_ok at h; omega)
theorem mi_ws_cg {v v' W0 : Nat → Int32} {G G' : ty_G} {n : Nat} : ∀ {k : Nat}, (∀ j, j < k → G' j = G j) → (∀ j, j < k → (G j).1 = 17 → v' (G j).2.2.1 = v (G j).2.2.1) → mi_ws v' W0 G' k n = mi_ws v W0 G k n := by
  intro k
  induction k with
  | zero => intro _ _; rfl
  | succ k ih =>
    intro h1 h2
    rw [mi_ws, mi_ws, h1 k (by omega), ih (fun j hj => h1 j (by omega)) (fun j hj => h2 j (by omega))]
    by_cases e : (G k).1 = 17 ∧ (G k).2.1 = n
    · rw [if_pos e, if_pos e, h2 k (by omega) e.1]
    · rw [if_neg e, if_neg e]
/-- a fresh temporary changes nothing -/
theorem ti_f_tmp {K S0W W0 tmp tmp' : Nat → Int32} {S0 : List Int32} {G : ty_G} {L nc tm tk pk : Nat} {N : List Nat} {WO : Nat → Option Nat} {S : List Int32} {W : Nat → Int32}
    (hn : nc ≤ 1000) (hk : tk ≤ 900) (hs : ti_st G L nc tm tk pk N WO) (ht : ∀ i, i < tm → tmp' i = tmp i) (h : ti_f K S0W tmp W0 S0 G L tk N WO S W) : ti_f K S0W tmp' W0 S0 G L tk N WO S W := by
  obtain ⟨s1, s2, s3, s4, s5, s6⟩ := hs
  obtain ⟨f1, f2, f3, f4⟩ := h
  have htb : ∀ k, k < L → tb_n G k ≤ tm := fun k hk => by rw [s4]; exact tb_mono (Nat.le_of_lt hk)
  have cg : ∀ k o, k < L → to_ok nc tk (tb_n G k) o → tv_v K S0W tmp' o = tv_v K S0W tmp o := fun k o hk' ho => tv_cg hn hk (to_mono ho (Nat.le_refl _) (Nat.le_refl _) (htb k hk')) ht
  refine ⟨?_, ?_, ?_, ?_⟩
  · rw [f1]
    unfold tv_S
    congr 1
    exact List.map_congr_left (fun o ho => (tv_cg hn hk (s1 o ho) ht).symm)
  · intro k hk'
    have hm := s3 k hk'
    have he := f2 k hk'
    constructor
    · intro e
      rw [← he.1 e]
      rcases hm with hm | hm | hm
      · omega
      · apply ht
        have h17 : ¬ (G k).1 = 17 := by omega
        have := tb_lt hk' h17
        omega
      · unfold to_sum at hm; omega
    · intro e
      have h17 : ¬ (G k).1 = 17 := by unfold to_sum at e; omega
      have hlt := tb_lt hk' h17
      rcases hm with hm | hm | hm
      · omega
      · unfold to_sum at e; omega
      · rw [cg k _ hk' hm.2.2.1, cg k _ hk' hm.2.2.2, ← he.2 e]
        exact ht _ (by omega)
  · intro n hn'
    refine ⟨(f3 n hn').1, fun o ho => ?_⟩
    rw [(f3 n hn').2 o ho]
    exact (tv_cg hn hk (s2 n o hn' ho) ht).symm
  · intro n hn'
    rw [← f4 n hn']
    refine mi_ws_cg (fun j _ => rfl) (fun j hj e => ?_)
    rcases s3 j hj with hm | hm | hm
    · exact cg j _ hj hm.2.2
    · omega
    · have := hm.1; unfold to_sum at this; omega
end
section
/-! the translator's small methods, over its group of the state -/
def xr_R (x : ty_X) (mi nc tm tk pk : Nat) (N : List Nat) (mo mt ma mb K wo : Nat → Int32) : Prop :=
  gx_micros x = nI mi ∧ gx_constants x = nI nc ∧ gx_newSize x = nI N.length ∧ gx_taken x = nI tk ∧ gx_peak x = nI pk ∧ gx_temps x = nI tm ∧ sg_R (gx_newStack x) 0 (N.map nI) ∧
  gx_microOp x = mo ∧ gx_microTarget x = mt ∧ gx_microA x = ma ∧ gx_microB x = mb ∧ gx_constant x = K ∧ gx_wordOperand x = wo
def gv_pk (pk tk n : Nat) : Nat := if n + 1 ≤ pk + tk then pk else n + 1 - tk
section XA
variable {c : ty_C} {m : ty_M} {e : ty_E} {b : ty_B} {x : ty_X} {d : ty_D} {mi nc tm tk pk : Nat} {N : List Nat} {mo mt ma mb K wo : Nat → Int32}
theorem xa_take {post : Int32 → SX → Prop} (hN : N.length ≤ 160) (ht : tk ≤ 900) (h : xr_R x mi nc tm tk pk N mo mt ma mb K wo)
    (k : ∀ x', xr_R x' mi nc tm (tk_f N tk).2.2 pk (tk_f N tk).2.1 mo mt ma mb K wo → post (nI (tk_f N tk).1) (mk_S c m e b x' d)) : wpX_take post (mk_S c m e b x d) := by
  obtain ⟨h1, h2, h3, h4, h5, h6, h7, h8, h9, h10, h11, h12, h13⟩ := h
  refine pk_le N.length 0 (fun z => ?_) (fun z => ?_) h3
  · have eN : N = [] := List.eq_nil_of_length_eq_zero (by omega)
    subst eN
    refine nm_r (e' := nI (tk + 1)) ?_ ?_
    · show gx_taken x + 1 = _
      rw [h4, nI_1]
    · have e1 : (1000 + nI (tk + 1)) - 1 = nI (1000 + tk) := by
        rw [show (1000 : Int32) = nI 1000 from rfl, nI_add]; exact nI_pred (1000 + tk)
      show post ((1000 + nI (tk + 1)) - 1) (mk_S c m e b ((gx_micros x, gx_constants x, gx_newSize x, nI (tk + 1), gx_peak x, gx_temps x, gx_microOp x, gx_microTarget x, gx_microA x, gx_microB x, gx_constant x, gx_newStack x, gx_wordOperand x)) d)
      rw [e1]
      exact k _ ⟨h1, h2, h3, rfl, h5, h6, h7, h8, h9, h10, h11, h12, h13⟩
  · cases N with
    | nil => exact absurd z (by decide)
    | cons o N =>
      rw [List.length_cons] at h3 hN
      have em : (N.map nI).length = N.length := List.length_map _
      have hv : gx_newStack x (0 + (N.map nI).length) = nI o := h7.1
      rw [em, Nat.zero_add] at hv
      refine nm_r (e' := nI N.length) ?_ (And.intro (pk_in N.length 160 (by omega)) ?_)
      · show gx_newSize x - 1 = _
        rw [h3, nI_pred]
      · show post (gx_newStack x (nI N.length).toNatClampNeg) (mk_S c m e b ((gx_micros x, gx_constants x, nI N.length, gx_taken x, gx_peak x, gx_temps x, gx_microOp x, gx_microTarget x, gx_microA x, gx_microB x, gx_constant x, gx_newStack x, gx_wordOperand x)) d)
        rw [pk_cl N.length, hv]
        exact k _ ⟨h1, h2, rfl, h4, h5, h6, h7.2, h8, h9, h10, h11, h12, h13⟩
theorem xa_give {post : SX → Prop} (o : Nat) (ho : o < 32768) (hN : N.length < 160) (ht : tk ≤ 900) (hp : pk ≤ 900) (h : xr_R x mi nc tm tk pk N mo mt ma mb K wo)
    (k : ∀ x', xr_R x' mi nc tm tk (gv_pk pk tk N.length) (o :: N) mo mt ma mb K wo → post (mk_S c m e b x' d)) : wpX_give post (mk_S c m e b x d) (nI o) := by
  obtain ⟨h1, h2, h3, h4, h5, h6, h7, h8, h9, h10, h11, h12, h13⟩ := h
  have em : (N.map nI).length = N.length := List.length_map _
  have hs : sg_R (upd (gx_newStack x) N.length (nI o)) 0 ((o :: N).map nI) := by
    refine sg_push (f := gx_newStack x) (k := 0) (fun i hi => ?_) ?_ h7
    · exact pk_un (by omega)
    · rw [em, Nat.zero_add, pk_us]
  refine And.intro (pk_in N.length 160 hN h3) (nm_r (e' := upd (gx_newStack x) N.length (nI o)) ?_ (nm_r (e' := nI (N.length + 1)) ?_ (nm_r (e' := nI (N.length + 1) - nI tk) ?_ ?_)))
  · show upd (gx_newStack x) (gx_newSize x).toNatClampNeg (vp_nar .short (nI o).toInt16.toInt32) = _
    rw [pk_cl N.length h3, pk_vs, wi_s ho]
  · show gx_newSize x + 1 = _
    rw [h3, nI_1]
  · show nI (N.length + 1) - gx_taken x = _
    rw [h4]
  · have ei : (nI (N.length + 1) - nI tk).toInt = ((N.length + 1 : Nat) : Int) - (tk : Nat) := pk_sub_toInt (by omega) (by omega)
    have ep : (gx_peak x).toInt = (pk : Nat) := by rw [h5]; exact nI_toInt (by omega)
    by_cases q : N.length + 1 ≤ pk + tk
    · refine br_t ?_ ?_
      · apply Int32.le_iff_toInt_le.mpr
        show _ ≤ (gx_peak x).toInt
        rw [ei, ep]; omega
      · refine k ((gx_micros x, gx_constants x, nI (N.length + 1), gx_taken x, gx_peak x, gx_temps x, gx_microOp x, gx_microTarget x, gx_microA x, gx_microB x, gx_constant x, upd (gx_newStack x) N.length (nI o), gx_wordOperand x)) ⟨h1, h2, rfl, h4, ?_, h6, hs, h8, h9, h10, h11, h12, h13⟩
        show gx_peak x = _
        rw [h5, gv_pk, if_pos q]
    · refine br_f ?_ ?_
      · intro z
        have z2 : (nI (N.length + 1) - nI tk).toInt ≤ (gx_peak x).toInt := Int32.le_iff_toInt_le.mp z
        rw [ei, ep] at z2; omega
      · refine k ((gx_micros x, gx_constants x, nI (N.length + 1), gx_taken x, nI (N.length + 1) - nI tk, gx_temps x, gx_microOp x, gx_microTarget x, gx_microA x, gx_microB x, gx_constant x, upd (gx_newStack x) N.length (nI o), gx_wordOperand x)) ⟨h1, h2, rfl, h4, ?_, h6, hs, h8, h9, h10, h11, h12, h13⟩
        show nI (N.length + 1) - nI tk = _
        rw [gv_pk, if_neg q, pk_sub (by omega)]
theorem xa_constL {post : Int32 → SX → Prop} (v : Int32) (hc : nc < 256) (h : xr_R x mi nc tm tk pk N mo mt ma mb K wo)
    (k : ∀ i x' nc' K', i < nc' → K' i = v → nc ≤ nc' → nc' ≤ nc + 1 → (∀ j, j < nc → K' j = K j) → xr_R x' mi nc' tm tk pk N mo mt ma mb K' wo → post (nI i) (mk_S c m e b x' d)) :
    ∀ dd i, i + dd = nc → lo_constantFor_2 post v (dd + 1) (nI i) c m e b x d := by
  have hh := h
  obtain ⟨h1, h2, h3, h4, h5, h6, h7, h8, h9, h10, h11, h12, h13⟩ := h
  intro dd
  induction dd with
  | zero =>
    intro i hi
    have e0 : i = nc := by omega
    subst e0
    refine br_t ?_ ?_
    · show gx_constants x ≤ _
      rw [h2]; exact nI_le (by omega) (by omega)
    · refine And.intro (pk_in i 256 hc h2) (nm_r (e' := upd K i v) ?_ (nm_r (e' := nI (i + 1)) ?_ ?_))
      · show upd (gx_constant x) (gx_constants x).toNatClampNeg v = _
        rw [pk_cl i h2, h12]
      · show gx_constants x + 1 = _
        rw [h2, nI_1]
      · show post (nI (i + 1) - 1) (mk_S c m e b ((gx_micros x, nI (i + 1), gx_newSize x, gx_taken x, gx_peak x, gx_temps x, gx_microOp x, gx_microTarget x, gx_microA x, gx_microB x, upd K i v, gx_newStack x, gx_wordOperand x)) d)
        rw [nI_pred]
        exact k i _ (i + 1) (upd K i v) (by omega) pk_us (by omega) (by omega) (fun j hj => pk_un (by omega)) ⟨h1, rfl, h3, h4, h5, h6, h7, h8, h9, h10, h11, rfl, h13⟩
  | succ dd ih =>
    intro i hi
    refine br_f ?_ (And.intro (pk_in i 256 (by omega)) ?_)
    · show ¬ gx_constants x ≤ _
      rw [h2]; exact nI_ge (by omega) (by omega)
    · have e1 : gx_constant x (nI i).toNatClampNeg = K i := by rw [pk_cl i, h12]
      refine br_c (fun z => ?_) (fun z => nm_r (e' := nI (i + 1)) (nI_1 i) (ih (i + 1) (by omega)))
      exact k i x nc K (by omega) (e1.symm.trans z) (by omega) (by omega) (fun j _ => rfl) hh
theorem xa_const {post : Int32 → SX → Prop} (v : Int32) (hc : nc < 256) (h : xr_R x mi nc tm tk pk N mo mt ma mb K wo)
    (k : ∀ i x' nc' K', i < nc' → K' i = v → nc ≤ nc' → nc' ≤ nc + 1 → (∀ j, j < nc → K' j = K j) → xr_R x' mi nc' tm tk pk N mo mt ma mb K' wo → post (nI i) (mk_S c m e b x' d)) : wpX_constantFor post (mk_S c m e b x d) v :=
  ⟨nc + 1, xa_constL v hc h k nc 0 (by omega)⟩
theorem xa_add {post : SX → Prop} (q t a z : Nat) (hq : q < 128) (ht : t < 32768) (ha : a < 32768) (hz : z < 32768) (hm : mi < 128) (h : xr_R x mi nc tm tk pk N mo mt ma mb K wo)
    (k : ∀ x', xr_R x' (mi + 1) nc tm tk pk N (upd mo mi (nI q)) (upd mt mi (nI t)) (upd ma mi (nI a)) (upd mb mi (nI z)) K wo → post (mk_S c m e b x' d)) : wpX_addMicro post (mk_S c m e b x d) (nI q) (nI t) (nI a) (nI z) := by
  obtain ⟨h1, h2, h3, h4, h5, h6, h7, h8, h9, h10, h11, h12, h13⟩ := h
  refine And.intro (pk_in mi 128 hm h1) (nm_r (e' := upd mo mi (nI q)) ?_ (And.intro (pk_in mi 128 hm h1) (nm_r (e' := upd mt mi (nI t)) ?_ (And.intro (pk_in mi 128 hm h1) (nm_r (e' := upd ma mi (nI a)) ?_ (And.intro (pk_in mi 128 hm h1) (nm_r (e' := upd mb mi (nI z)) ?_ (nm_r (e' := nI (mi + 1)) ?_ ?_))))))))
  · show upd (gx_microOp x) (gx_micros x).toNatClampNeg (vp_nar .byte (nI q).toInt8.toInt32) = _
    rw [pk_cl mi h1, h8, pk_vb, wi_b hq]
  · show upd (gx_microTarget x) (gx_micros x).toNatClampNeg (vp_nar .short (nI t).toInt16.toInt32) = _
    rw [pk_cl mi h1, h9, pk_vs, wi_s ht]
  · show upd (gx_microA x) (gx_micros x).toNatClampNeg (vp_nar .short (nI a).toInt16.toInt32) = _
    rw [pk_cl mi h1, h10, pk_vs, wi_s ha]
  · show upd (gx_microB x) (gx_micros x).toNatClampNeg (vp_nar .short (nI z).toInt16.toInt32) = _
    rw [pk_cl mi h1, h11, pk_vs, wi_s hz]
  · show gx_micros x + 1 = _
    rw [h1, nI_1]
  · exact k ((nI (mi + 1), gx_constants x, gx_newSize x, gx_taken x, gx_peak x, gx_temps x, upd mo mi (nI q), upd mt mi (nI t), upd ma mi (nI a), upd mb mi (nI z), gx_constant x, gx_newStack x, gx_wordOperand x)) ⟨rfl, h2, h3, h4, h5, h6, h7, rfl, rfl, rfl, rfl, h12, h13⟩
theorem xa_isC {post : Int32 → Prop} (o : Nat) (ho : o < 32768) (h : post (if o < 1000 then 1 else 0)) : wpX_isConstant post (mk_S c m e b x d) (nI o) := by
  refine br_f (nI_pos (by omega)) (pk_le 1000 o (fun z => ?_) (fun z => ?_))
  · rw [if_neg (by omega)] at h; exact h
  · rw [if_pos z] at h; exact h
theorem xa_isN {post : Int32 → Prop} (o : Nat) (v : Int32) (ho : o < 32768) (hc : nc ≤ 256) (hok : to_ok nc tk tm o) (hk : gx_constant x = K) (h : post (if o < 1000 ∧ K o = v then 1 else 0)) : wpX_isNumber post (mk_S c m e b x d) (nI o) v := by
  unfold wpX_isNumber mk_S; dsimp only
  refine xa_isC o ho ?_
  by_cases z : o < 1000
  · rw [if_pos z]
    refine br_f (by decide) (And.intro (pk_in o 256 (by unfold to_ok at hok; omega)) ?_)
    have e1 : gx_constant x (nI o).toNatClampNeg = K o := by rw [pk_cl o, hk]
    refine br_c (fun y => ?_) (fun y => ?_)
    · rw [if_pos ⟨z, e1.symm.trans y⟩] at h; exact h
    · rw [if_neg (fun q => y (e1.trans q.2))] at h; exact h
  · rw [if_neg z]
    rw [if_neg (fun q => z q.1)] at h
    exact br_t rfl h
end XA
end
section
/-! what needn't be worked out: constants, and what came to the same before -/
def si_ok (nc : Nat) (K : Nat → Int32) (q ob oa i : Nat) : Prop := ∀ K' old tmp : Nat → Int32, (∀ j, j < nc → K' j = K j) → tv_v K' old tmp i = am_val q (tv_v K' old tmp ob) (tv_v K' old tmp oa)
theorem tv_c {K old tmp : Nat → Int32} {o : Nat} (h : o < 1000) : tv_v K old tmp o = K o := by
  unfold tv_v; rw [if_pos (by omega), if_pos h]
section XB
variable {c : ty_C} {m : ty_M} {e : ty_E} {b : ty_B} {x : ty_X} {d : ty_D} {mi nc tm tk pk : Nat} {N : List Nat} {mo mt ma mb K wo : Nat → Int32} {post : Int32 → SX → Prop} {q ob oa : Nat}
theorem xb_const {v : Int32} (hc : nc < 256) (hq : ∀ K' old tmp : Nat → Int32, (∀ j, j < nc → K' j = K j) → am_val q (tv_v K' old tmp ob) (tv_v K' old tmp oa) = v) (h : xr_R x mi nc tm tk pk N mo mt ma mb K wo)
    (k2 : ∀ i x' nc' K', to_ok nc' tk tm i → nc ≤ nc' → nc' ≤ nc + 1 → (∀ j, j < nc → K' j = K j) → si_ok nc' K' q ob oa i → xr_R x' mi nc' tm tk pk N mo mt ma mb K' wo → post (nI i) (mk_S c m e b x' d)) : wpX_constantFor post (mk_S c m e b x d) v := by
  refine xa_const v hc h (fun i x' nc' K' hi hK h1 h2 h3 h4 => k2 i x' nc' K' (Or.inl hi) h1 h2 h3 ?_ h4)
  intro K'' old tmp hag
  rw [hq K'' old tmp (fun j hj => (hag j (by omega)).trans (h3 j hj)), tv_c (by omega), hag i hi]
  exact hK
theorem xb_168 (hqs : to_sum q) (hc : nc < 256) (ha : oa < 32768) (hb : ob < 32768) (h : xr_R x mi nc tm tk pk N mo mt ma mb K wo)
    (k1 : post (-1) (mk_S c m e b x d))
    (k2 : ∀ i x' nc' K', to_ok nc' tk tm i → nc ≤ nc' → nc' ≤ nc + 1 → (∀ j, j < nc → K' j = K j) → si_ok nc' K' q ob oa i → xr_R x' mi nc' tm tk pk N mo mt ma mb K' wo → post (nI i) (mk_S c m e b x' d)) :
    lo_simplified_168 post (nI q) (nI ob) (nI oa) c m e b x d := by
  have hq : q ≤ 13 := by unfold to_sum at hqs; omega
  refine pk_eq oa ob (fun z => pk_eq q 11 (fun y => ?_) (fun _ => k1)) (fun _ => k1)
  subst z y
  refine xb_const (ob := oa) (oa := oa) (q := 11) hc (fun K' old tmp _ => ?_) h k2
  show (if _ = _ then (1 : Int32) else 0) = 1
  exact if_pos rfl
theorem xb_138 {z0 : Int32} (hz : ¬ z0 = 0 → ∀ K' old tmp : Nat → Int32, (∀ j, j < nc → K' j = K j) → am_val q (tv_v K' old tmp ob) (tv_v K' old tmp oa) = 0) (hqs : to_sum q) (hc : nc < 256) (ha : oa < 32768) (hb : ob < 32768) (h : xr_R x mi nc tm tk pk N mo mt ma mb K wo)
    (k1 : post (-1) (mk_S c m e b x d))
    (k2 : ∀ i x' nc' K', to_ok nc' tk tm i → nc ≤ nc' → nc' ≤ nc + 1 → (∀ j, j < nc → K' j = K j) → si_ok nc' K' q ob oa i → xr_R x' mi nc' tm tk pk N mo mt ma mb K' wo → post (nI i) (mk_S c m e b x' d)) :
    lo_simplified_138 post (nI q) (nI ob) (nI oa) z0 c m e b x d := by
  have hq : q ≤ 13 := by unfold to_sum at hqs; omega
  have h168 := xb_168 hqs hc ha hb h k1 k2
  refine br_c (fun _ => pk_eq oa ob (fun z => pk_eq q 6 (fun y => ?_) (fun _ => pk_eq q 10 (fun y => ?_) (fun _ => h168))) (fun _ => h168)) (fun z => xb_const hc (hz z) h k2)
  · subst z y
    refine xb_const (ob := oa) (oa := oa) (q := 6) hc (fun K' old tmp _ => ?_) h k2
    exact Int32.sub_self _
  · subst z y
    refine xb_const (ob := oa) (oa := oa) (q := 10) hc (fun K' old tmp _ => ?_) h k2
    show (if _ ≤ _ then (0 : Int32) else 1) = 0
    exact if_pos (Int32.le_refl _)
theorem xb_109 (hqs : to_sum q) (hc : nc < 256) (hoa : to_ok nc tk tm oa) (hob : to_ok nc tk tm ob) (ha : oa < 32768) (hb : ob < 32768) (h : xr_R x mi nc tm tk pk N mo mt ma mb K wo)
    (k1 : post (-1) (mk_S c m e b x d))
    (k2 : ∀ i x' nc' K', to_ok nc' tk tm i → nc ≤ nc' → nc' ≤ nc + 1 → (∀ j, j < nc → K' j = K j) → si_ok nc' K' q ob oa i → xr_R x' mi nc' tm tk pk N mo mt ma mb K' wo → post (nI i) (mk_S c m e b x' d)) :
    lo_simplified_109 post (nI q) (nI ob) (nI oa) c m e b x d := by
  have hq : q ≤ 13 := by unfold to_sum at hqs; omega
  have hk : gx_constant x = K := h.2.2.2.2.2.2.2.2.2.2.2.1
  have h137 := xb_138 (z0 := 0) (fun z => absurd rfl z) hqs hc ha hb h k1 k2
  refine pk_eq q 7 (fun y => ?_) (fun _ => h137)
  subst y
  refine xa_isN oa 0 ha (by omega) hoa hk ?_
  by_cases z1 : oa < 1000 ∧ K oa = 0
  · rw [if_pos z1]
    refine br_f (by decide) (xb_138 (z0 := 1) (fun _ K' old tmp hag => ?_) hqs hc ha hb h k1 k2)
    rw [tv_c (o := oa) z1.1, hag oa (by unfold to_ok at hoa; omega), z1.2]
    exact Int32.mul_zero
  · rw [if_neg z1]
    refine br_t rfl (xa_isN ob 0 hb (by omega) hob hk ?_)
    by_cases z2 : ob < 1000 ∧ K ob = 0
    · rw [if_pos z2]
      refine br_f (by decide) (xb_138 (z0 := 1) (fun _ K' old tmp hag => ?_) hqs hc ha hb h k1 k2)
      rw [tv_c (o := ob) z2.1, hag ob (by unfold to_ok at hob; omega), z2.2]
      exact Int32.zero_mul
    · rw [if_neg z2]
      exact br_t rfl h137
theorem xb_main (hqs : to_sum q) (hc : nc < 256) (hoa : to_ok nc tk tm oa) (hob : to_ok nc tk tm ob) (ha : oa < 32768) (hb : ob < 32768) (h : xr_R x mi nc tm tk pk N mo mt ma mb K wo)
    (k1 : post (-1) (mk_S c m e b x d))
    (k2 : ∀ i x' nc' K', to_ok nc' tk tm i → nc ≤ nc' → nc' ≤ nc + 1 → (∀ j, j < nc → K' j = K j) → si_ok nc' K' q ob oa i → xr_R x' mi nc' tm tk pk N mo mt ma mb K' wo → post (nI i) (mk_S c m e b x' d)) :
    wpX_simplified post (mk_S c m e b x d) (nI q) (nI ob) (nI oa) := by
  have hq : q ≤ 13 := by unfold to_sum at hqs; omega
  have hk : gx_constant x = K := h.2.2.2.2.2.2.2.2.2.2.2.1
  have kk : ∀ i, to_ok nc tk tm i → si_ok nc K q ob oa i → post (nI i) (mk_S c m e b x d) := fun i hi hs => k2 i x nc K hi (Nat.le_refl _) (Nat.le_succ _) (fun j _ => rfl) hs h
  have h109 := xb_109 hqs hc hoa hob ha hb h k1 k2
  have h92 : lo_simplified_92 post (nI q) (nI ob) (nI oa) c m e b x d := by
    unfold lo_simplified_92 wX_simplified_92
    refine xa_isN ob 1 hb (by omega) hob hk ?_
    by_cases z : ob < 1000 ∧ K ob = 1
    · rw [if_pos z]
      refine br_f (by decide) (pk_eq q 7 (fun y => ?_) (fun _ => h109))
      subst y
      refine kk oa hoa (fun K' old tmp hag => ?_)
      rw [tv_c (o := ob) z.1, hag ob (by unfold to_ok at hob; omega), z.2]
      exact (Int32.one_mul _).symm
    · rw [if_neg z]; exact br_t rfl h109
  have h78 : lo_simplified_78 post (nI q) (nI ob) (nI oa) c m e b x d := by
    unfold lo_simplified_78 wX_simplified_78
    refine xa_isN ob 0 hb (by omega) hob hk ?_
    by_cases z : ob < 1000 ∧ K ob = 0
    · rw [if_pos z]
      refine br_f (by decide) (pk_eq q 5 (fun y => ?_) (fun _ => h92))
      subst y
      refine kk oa hoa (fun K' old tmp hag => ?_)
      rw [tv_c (o := ob) z.1, hag ob (by unfold to_ok at hob; omega), z.2]
      exact (Int32.zero_add _).symm
    · rw [if_neg z]; exact br_t rfl h92
  have h61 : lo_simplified_61 post (nI q) (nI ob) (nI oa) c m e b x d := by
    unfold lo_simplified_61 wX_simplified_61
    refine xa_isN oa 1 ha (by omega) hoa hk ?_
    by_cases z : oa < 1000 ∧ K oa = 1
    · rw [if_pos z]
      refine br_f (by decide) (pk_eq q 7 (fun y => ?_) (fun _ => h78))
      subst y
      refine kk ob hob (fun K' old tmp hag => ?_)
      rw [tv_c (o := oa) z.1, hag oa (by unfold to_ok at hoa; omega), z.2]
      exact (Int32.mul_one _).symm
    · rw [if_neg z]; exact br_t rfl h78
  have h41 : lo_simplified_41 post (nI q) (nI ob) (nI oa) c m e b x d := by
    unfold lo_simplified_41 wX_simplified_41
    refine xa_isN oa 0 ha (by omega) hoa hk ?_
    by_cases z : oa < 1000 ∧ K oa = 0
    · rw [if_pos z]
      refine br_f (by decide) (pk_eq q 5 (fun y => ?_) (fun _ => pk_eq q 6 (fun y => ?_) (fun _ => h61)))
      · subst y
        refine kk ob hob (fun K' old tmp hag => ?_)
        rw [tv_c (o := oa) z.1, hag oa (by unfold to_ok at hoa; omega), z.2]
        exact (Int32.add_zero _).symm
      · subst y
        refine kk ob hob (fun K' old tmp hag => ?_)
        rw [tv_c (o := oa) z.1, hag oa (by unfold to_ok at hoa; omega), z.2]
        exact (Int32.sub_zero _).symm
    · rw [if_neg z]; exact br_t rfl h61
  unfold wpX_simplified mk_S; dsimp only
  refine xa_isC oa ha ?_
  by_cases z1 : oa < 1000
  · rw [if_pos z1]
    refine br_f (by decide) ?_
    refine xa_isC ob hb ?_
    by_cases z2 : ob < 1000
    · rw [if_pos z2]
      have hoa' : oa < nc := by unfold to_ok at hoa; omega
      have hob' : ob < nc := by unfold to_ok at hob; omega
      refine br_f (by decide) (And.intro (pk_in ob 256 (by omega)) (And.intro (pk_in oa 256 (by omega)) ?_))
      refine xw_val (by unfold to_sum at hqs; omega) hq ?_
      have e1 : gx_constant x (nI oa).toNatClampNeg = K oa := by rw [pk_cl oa, hk]
      have e2 : gx_constant x (nI ob).toNatClampNeg = K ob := by rw [pk_cl ob, hk]
      rw [e1, e2]
      refine xb_const hc (fun K' old tmp hag => ?_) h k2
      rw [tv_c z1, tv_c z2, hag oa hoa', hag ob hob']
    · rw [if_neg z2]; exact br_t rfl h41
  · rw [if_neg z1]; exact br_t rfl h41
end XB
end
section
section XC
variable {c : ty_C} {m : ty_M} {e : ty_E} {b : ty_B} {x : ty_X} {d : ty_D} {mi nc tm tk pk : Nat} {N : List Nat} {mo mt ma mb K wo : Nat → Int32} {post : Int32 → Prop} {q ob oa : Nat}
/-- micro k is the same operation with the same operands -/
def sa_ok (mo ma mb : Nat → Int32) (q ob oa k : Nat) : Prop := mo k = nI q ∧ ((ma k = nI ob ∧ mb k = nI oa) ∨ ((q = 5 ∨ q = 7 ∨ q = 11) ∧ ma k = nI oa ∧ mb k = nI ob))
theorem xc_93 {J : Int32 → Prop} {i : Nat} {x5 z0 : Int32} (hi : i < 128) (h : xr_R x mi nc tm tk pk N mo mt ma mb K wo) (hs : ¬ x5 = 0 → ma i = nI ob ∧ mb i = nI oa) (hz : ¬ z0 = 0 → (q = 5 ∨ q = 7 ∨ q = 11) ∧ ma i = nI oa ∧ mb i = nI ob)
    (hJ : J (nI (i + 1))) (hk : sa_ok mo ma mb q ob oa i → post (mt i)) : lo_sameBefore_93 post J (nI q) (nI ob) (nI oa) (nI i) x5 z0 c m e b x d := by
  obtain ⟨h1, h2, h3, h4, h5, h6, h7, h8, h9, h10, h11, h12, h13⟩ := h
  have e1 : gx_microOp x (nI i).toNatClampNeg = mo i := by rw [pk_cl i, h8]
  have e2 : gx_microTarget x (nI i).toNatClampNeg = mt i := by rw [pk_cl i, h9]
  have hJ' : ∀ y, y = nI i + 1 → J y := fun y ey => by rw [ey, nI_1]; exact hJ
  refine And.intro (pk_in i 128 hi) (br_c (fun y => ?_) (fun _ => hJ'))
  have ym : mo i = nI q := e1.symm.trans y
  refine br_c (fun _ => br_c (fun _ => hJ') (fun z => And.intro (pk_in i 128 hi) ?_)) (fun z => And.intro (pk_in i 128 hi) ?_)
  · show post (gx_microTarget x (nI i).toNatClampNeg)
    rw [e2]; exact hk ⟨ym, Or.inr (hz z)⟩
  · show post (gx_microTarget x (nI i).toNatClampNeg)
    rw [e2]; exact hk ⟨ym, Or.inl (hs z)⟩
theorem xc_47 {J : Int32 → Prop} {i : Nat} {x5 : Int32} (hq : q ≤ 13) (hi : i < 128) (h : xr_R x mi nc tm tk pk N mo mt ma mb K wo) (hs : ¬ x5 = 0 → ma i = nI ob ∧ mb i = nI oa)
    (hJ : J (nI (i + 1))) (hk : sa_ok mo ma mb q ob oa i → post (mt i)) : lo_sameBefore_47 post J (nI q) (nI ob) (nI oa) (nI i) x5 c m e b x d := by
  have hh := h
  obtain ⟨h1, h2, h3, h4, h5, h6, h7, h8, h9, h10, h11, h12, h13⟩ := h
  have e1 : gx_microA x (nI i).toNatClampNeg = ma i := by rw [pk_cl i, h10]
  have e2 : gx_microB x (nI i).toNatClampNeg = mb i := by rw [pk_cl i, h11]
  have h92 : lo_sameBefore_92 post J (nI q) (nI ob) (nI oa) (nI i) x5 c m e b x d := xc_93 (z0 := 0) hi hh hs (fun z => absurd rfl z) hJ hk
  have h66 : (q = 5 ∨ q = 7 ∨ q = 11) → lo_sameBefore_66 post J (nI q) (nI ob) (nI oa) (nI i) x5 c m e b x d := by
    intro hq3
    refine And.intro (pk_in i 128 hi) (br_c (fun y => And.intro (pk_in i 128 hi) (br_c (fun z => ?_) (fun _ => h92))) (fun _ => h92))
    exact xc_93 (z0 := 1) hi hh hs (fun _ => ⟨hq3, e1.symm.trans y, e2.symm.trans z⟩) hJ hk
  exact pk_eq q 5 (fun y => h66 (by omega)) (fun _ => pk_eq q 7 (fun y => h66 (by omega)) (fun _ => pk_eq q 11 (fun y => h66 (by omega)) (fun _ => h92)))
theorem xc_loop {mf : Nat} (hq : q ≤ 13) (hm : mi ≤ 128) (h : xr_R x mi nc tm tk pk N mo mt ma mb K wo) (k1 : post (-1)) (k2 : ∀ k, mf ≤ k → k < mi → sa_ok mo ma mb q ob oa k → post (mt k)) :
    ∀ dd i, mf ≤ i → i + dd = mi → lo_sameBefore_11 post (nI q) (nI ob) (nI oa) (dd + 1) (nI i) c m e b x d := by
  have hh := h
  obtain ⟨h1, h2, h3, h4, h5, h6, h7, h8, h9, h10, h11, h12, h13⟩ := h
  intro dd
  induction dd with
  | zero =>
    intro i hf hi
    refine br_t ?_ k1
    show gx_micros x ≤ _
    rw [h1]; exact nI_le (by omega) (by omega)
  | succ dd ih =>
    intro i hf hi
    have e1 : gx_microA x (nI i).toNatClampNeg = ma i := by rw [pk_cl i, h10]
    have e2 : gx_microB x (nI i).toNatClampNeg = mb i := by rw [pk_cl i, h11]
    have hJ := ih (i + 1) (by omega) (by omega)
    refine br_f ?_ (And.intro (pk_in i 128 (by omega)) (br_c (fun y => And.intro (pk_in i 128 (by omega)) (br_c (fun z => ?_) (fun _ => ?_))) (fun _ => ?_)))
    · show ¬ gx_micros x ≤ _
      rw [h1]; exact nI_ge (by omega) (by omega)
    · exact xc_47 (x5 := 1) hq (by omega) hh (fun _ => ⟨e1.symm.trans y, e2.symm.trans z⟩) hJ (k2 i hf (by omega))
    · exact xc_47 (x5 := 0) hq (by omega) hh (fun z => absurd rfl z) hJ (k2 i hf (by omega))
    · exact xc_47 (x5 := 0) hq (by omega) hh (fun z => absurd rfl z) hJ (k2 i hf (by omega))
theorem xc_main {mf bi : Nat} (hbi : bi < 41) (hb : gb_blocks b = nI bi) (hf : gb_microFrom b bi = nI mf) (hmf : mf ≤ mi) (hq : q ≤ 13) (hm : mi ≤ 128) (h : xr_R x mi nc tm tk pk N mo mt ma mb K wo) (k1 : post (-1)) (k2 : ∀ k, mf ≤ k → k < mi → sa_ok mo ma mb q ob oa k → post (mt k)) :
    wpX_sameBefore post (mk_S c m e b x d) (nI q) (nI ob) (nI oa) := by
  refine And.intro (pk_in bi 42 (by omega) hb) (nm_r (e' := nI mf) ?_ ⟨mi - mf + 1, ?_⟩)
  · show gb_microFrom b (gb_blocks b).toNatClampNeg = _
    rw [pk_cl bi hb]; exact hf
  · exact xc_loop hq hm h k1 k2 (mi - mf) mf (Nat.le_refl _) (by omega)
end XC
end
section
/-! one step of the translation, in plain words -/
def up_G (G : ty_G) (L : Nat) (g : Nat × Nat × Nat × Nat) : ty_G := fun k => if k = L then g else G k
theorem up_s {G : ty_G} {L : Nat} {g : Nat × Nat × Nat × Nat} : up_G G L g L = g := if_pos rfl
theorem up_n {G : ty_G} {L k : Nat} {g : Nat × Nat × Nat × Nat} (h : k ≠ L) : up_G G L g k = G k := if_neg h
theorem up_tb {G : ty_G} {L k : Nat} {g : Nat × Nat × Nat × Nat} (h : k ≤ L) : tb_n (up_G G L g) k = tb_n G k := tb_cg (fun j hj => up_n (by omega))
theorem gv_ge {pk tk n : Nat} : pk ≤ gv_pk pk tk n ∧ n + 1 ≤ gv_pk pk tk n + tk ∧ gv_pk pk tk n ≤ pk + (n + 1) := by
  unfold gv_pk; split <;> omega
theorem mi_up {G : ty_G} {L nc tk nc' tk' k : Nat} {g : Nat × Nat × Nat × Nat} (hk : k < L) (h : mi_ok G nc tk k) (h1 : nc ≤ nc') (h2 : tk ≤ tk') : mi_ok (up_G G L g) nc' tk' k := by
  unfold mi_ok at *
  rw [up_n (by omega), up_tb (by omega)]
  rcases h with h | h | h
  · exact Or.inl ⟨h.1, h.2.1, to_mono h.2.2 h1 h2 (Nat.le_refl _)⟩
  · refine Or.inr (Or.inl ⟨h.1, h.2.1, h.2.2.1, fun j hj => ?_⟩)
    rw [up_n (by omega)]; exact h.2.2.2 j hj
  · exact Or.inr (Or.inr ⟨h.1, h.2.1, to_mono h.2.2.1 h1 h2 (Nat.le_refl _), to_mono h.2.2.2 h1 h2 (Nat.le_refl _)⟩)
theorem mi_mono {G : ty_G} {nc tk nc' tk' k : Nat} (h : mi_ok G nc tk k) (h1 : nc ≤ nc') (h2 : tk ≤ tk') : mi_ok G nc' tk' k := by
  unfold mi_ok at *
  rcases h with h | h | h
  · exact Or.inl ⟨h.1, h.2.1, to_mono h.2.2 h1 h2 (Nat.le_refl _)⟩
  · exact Or.inr (Or.inl h)
  · exact Or.inr (Or.inr ⟨h.1, h.2.1, to_mono h.2.2.1 h1 h2 (Nat.le_refl _), to_mono h.2.2.2 h1 h2 (Nat.le_refl _)⟩)
def is_sim (q : Nat) : Prop := q ≤ 7 ∨ (10 ≤ q ∧ q ≤ 13) ∨ q = 16 ∨ q = 17
section TS
variable {sz : Nat} {op : Nat → Nat} {num : Nat → Int32} {start p : Nat} {K K' : Nat → Int32} {G G' : ty_G} {L L' nc nc' tm tk tk' pk pk' : Nat} {N N' : List Nat} {WO WO' : Nat → Option Nat}
theorem ts_step (hsem : ti_sem sz op num start p K G L nc tk pk N WO) (hp : start ≤ p) (hnc : nc ≤ nc') (hK : ∀ i, i < nc → K' i = K i) (htk : tk ≤ tk') (hpk : pk ≤ pk')
    (hs : ∀ (K2 : Nat → Int32), (∀ i, i < nc' → K2 i = K' i) → ∀ (S0 : List Int32) (R : List Nat) (I O : List Int32) (W0 tmp : Nat → Int32) (S : List Int32) (W : Nat → Int32), tk' ≤ S0.length → S0.length + pk' ≤ 16 →
      ti_f K2 (tv_old S0) tmp W0 S0 G L tk N WO S W → ∃ tmp' S' W', ti_f K2 (tv_old S0) tmp' W0 S0 G' L' tk' N' WO' S' W' ∧ am_s1 sz op num (p, S, R, I, O, W) (p + 1, S', R, I, O, W')) :
    ti_sem sz op num start (p + 1) K' G' L' nc' tk' pk' N' WO' := by
  intro K2 hag S0 R I O W0 h1 h2
  obtain ⟨tmp, S, W, hf, hn⟩ := hsem K2 (fun i hi => (hag i (by omega)).trans (hK i hi)) S0 R I O W0 (by omega) (by omega)
  obtain ⟨tmp', S', W', hf', hs1⟩ := hs K2 hag S0 R I O W0 tmp S W h1 h2 hf
  refine ⟨tmp', S', W', hf', ?_⟩
  rw [show p + 1 - start = (p - start) + 1 by omega]
  exact ⟨_, hn, hs1⟩
theorem ts_s1 {q : Nat} {S S' : List Int32} {R : List Nat} {I O : List Int32} {W W' : Nat → Int32} (hp : p < sz) (hq : op p = q) (hsi : is_sim q) (hg : am_go q (num p) (p, S, R, I, O, W) = (p + 1, S', R, I, O, W')) (ht : am_tk q ≤ S.length) (hl : S'.length ≤ 16) :
    am_s1 sz op num (p, S, R, I, O, W) (p + 1, S', R, I, O, W') := by
  have hq24 : q ≤ 17 := by unfold is_sim at hsi; omega
  have e : S'.length = am_gv q + (S.length - am_tk q) := by
    have e1 : (am_go q (num p) (p, S, R, I, O, W)).2.1 = S' := by rw [hg]
    rw [← e1]
    show (_ ++ S.drop (am_tk q)).length = _
    rw [List.length_append, am_pu_len (by omega), List.length_drop]
  refine ⟨hp, ?_, ?_, ?_⟩
  · show am_hi (op p) _ = 1
    rw [hq]
    refine am_can_hi ⟨ht, fun z => ?_, fun z => ?_, fun z => ?_, ?_, fun z => ?_, fun z => ?_, fun z => ?_⟩
    · unfold is_sim at hsi; omega
    · unfold is_sim at hsi; omega
    · omega
    · show S.length - am_tk q + am_gv q ≤ 16
      omega
    · omega
    · omega
    · omega
  · show ¬ op p = 24
    omega
  · show _ = am_go (op p) (num p) _
    rw [hq, hg]
theorem ts_len {v : Nat → Int32} {S0 : List Int32} (h1 : N'.length ≤ pk' + tk') (h2 : tk' ≤ S0.length) (h3 : S0.length + pk' ≤ 16) : (tv_S v S0 N' tk').length ≤ 16 := by
  rw [tv_S_len]; omega
/-- the stack of operands changes, nothing else but constants -/
theorem ti_f_stk {K2 old tmp W0 : Nat → Int32} {S0 S : List Int32} {W : Nat → Int32} (h : ti_f K2 old tmp W0 S0 G L tk N WO S W) : ti_f K2 old tmp W0 S0 G L tk' N' WO (tv_S (tv_v K2 old tmp) S0 N' tk') W := ⟨rfl, h.2.1, h.2.2.1, h.2.2.2⟩
theorem ti_st_stk (h : ti_st G L nc tm tk pk N WO) (h1 : nc ≤ nc') (h2 : tk ≤ tk') (hN : ∀ o, o ∈ N' → to_ok nc' tk' tm o) (hl : N'.length ≤ pk' + tk') : ti_st G L nc' tm tk' pk' N' WO :=
  ⟨hN, fun n o hn ho => to_mono (h.2.1 n o hn ho) h1 h2 (Nat.le_refl _), fun k hk => mi_mono (h.2.2.1 k hk) h1 h2, h.2.2.2.1, h.2.2.2.2.1, hl⟩
end TS
/-! a micro is added -/
section TM
variable {K old tmp W0 : Nat → Int32} {S0 S : List Int32} {W : Nat → Int32} {G : ty_G} {L nc tm tk pk : Nat} {N N' : List Nat} {WO WO' : Nat → Option Nat} {tk' pk' : Nat}
theorem tm_eqs {g : Nat × Nat × Nat × Nat} (h : ∀ k, k < L → mi_eq K old tmp W0 (G k)) (hg : mi_eq K old tmp W0 g) : ∀ k, k < L + 1 → mi_eq K old tmp W0 (up_G G L g k) := by
  intro k hk
  by_cases e : k = L
  · subst e; rw [up_s]; exact hg
  · rw [up_n e]; exact h k (by omega)
theorem tm_ws {v : Nat → Int32} {g : Nat × Nat × Nat × Nat} {n : Nat} : mi_ws v W0 (up_G G L g) (L + 1) n = if g.1 = 17 ∧ g.2.1 = n then v g.2.2.1 else mi_ws v W0 G L n := by
  rw [mi_ws, up_s, mi_ws_cg (G' := up_G G L g) (G := G) (v' := v) (v := v) (fun j hj => up_n (by omega)) (fun j hj _ => rfl)]
/-- a GET or a sum: a new temporary -/
theorem tm_new {g : Nat × Nat × Nat × Nat} {w : Int32} (hn : nc ≤ 1000) (hk : tk ≤ 900) (hs : ti_st G L nc tm tk pk N WO) (hf : ti_f K old tmp W0 S0 G L tk N WO S W)
    (hg : g.1 ≠ 17) (ht : g.2.1 = 2000 + tm)
    (h16 : g.1 = 16 → w = W0 g.2.2.1) (hsum : to_sum g.1 → w = am_val g.1 (tv_v K old tmp g.2.2.1) (tv_v K old tmp g.2.2.2) ∧ to_ok nc tk tm g.2.2.1 ∧ to_ok nc tk tm g.2.2.2) :
    ti_f K old (upd tmp tm w) W0 S0 (up_G G L g) (L + 1) tk N WO S W ∧ tv_v K old (upd tmp tm w) (2000 + tm) = w := by
  have hag : ∀ i, i < tm → upd tmp tm w i = tmp i := fun i hi => pk_un (by omega)
  obtain ⟨f1, f2, f3, f4⟩ := ti_f_tmp hn hk hs hag hf
  have ev : tv_v K old (upd tmp tm w) (2000 + tm) = w := by
    unfold tv_v
    rw [if_neg (by omega), show 2000 + tm - 2000 = tm by omega, pk_us]
  refine ⟨⟨f1, tm_eqs f2 ⟨fun e => ?_, fun e => ?_⟩, f3, fun n hn' => ?_⟩, ev⟩
  · rw [ht, show 2000 + tm - 2000 = tm by omega, pk_us]; exact h16 e
  · obtain ⟨a, b, c⟩ := hsum e
    rw [ht, show 2000 + tm - 2000 = tm by omega, pk_us, tv_cg hn hk b hag, tv_cg hn hk c hag]
    exact a
  · rw [tm_ws, if_neg (fun z => hg z.1)]; exact f4 n hn'
end TM
end
section
/-! what holds while a block is translated: mf its first micro, start its first instruction, p the next one; x0 the translator's state before it, with nc0 constants -/
def ti_rep (mf L : Nat) (G : ty_G) (mo mt ma mb : Nat → Int32) : Prop := ∀ k, k < L → mo (mf + k) = nI (G k).1 ∧ mt (mf + k) = nI (G k).2.1 ∧ ma (mf + k) = nI (G k).2.2.1 ∧ mb (mf + k) = nI (G k).2.2.2 ∧ (G k).2.2.2 < 32768
def ti_wo (wo : Nat → Int32) (WO : Nat → Option Nat) : Prop := ∀ n, n < 64 → (WO n = none → wo n = -1) ∧ ∀ o, WO n = some o → wo n = nI o
def ti_fr (mf nc0 : Nat) (x0 : ty_X) (mo mt ma mb K : Nat → Int32) (nc : Nat) : Prop :=
  (∀ i, i < mf → mo i = gx_microOp x0 i ∧ mt i = gx_microTarget x0 i ∧ ma i = gx_microA x0 i ∧ mb i = gx_microB x0 i) ∧ nc0 ≤ nc ∧ ∀ i, i < nc0 → K i = gx_constant x0 i
def ti_J (sz : Nat) (op : Nat → Nat) (num : Nat → Int32) (mf start p nc0 : Nat) (x0 x : ty_X) (G : ty_G) (L nc tk pk : Nat) (N : List Nat) (WO : Nat → Option Nat) (mo mt ma mb K wo : Nat → Int32) : Prop :=
  xr_R x (mf + L) nc (tb_n G L) tk pk N mo mt ma mb K wo ∧ ti_rep mf L G mo mt ma mb ∧ ti_wo wo WO ∧ ti_st G L nc (tb_n G L) tk pk N WO ∧ ti_sem sz op num start p K G L nc tk pk N WO ∧
  (mf ≤ start ∧ start ≤ p ∧ L ≤ p - start ∧ nc ≤ p ∧ tk ≤ 2 * (p - start) ∧ N.length ≤ 3 * (p - start) ∧ pk ≤ 3 * (p - start)) ∧ ti_fr mf nc0 x0 mo mt ma mb K nc
def ti_I (sz : Nat) (op : Nat → Nat) (num : Nat → Int32) (mf start p nc0 : Nat) (x0 x : ty_X) : Prop :=
  ∃ G L nc tk pk N WO mo mt ma mb K wo, ti_J sz op num mf start p nc0 x0 x G L nc tk pk N WO mo mt ma mb K wo
def up_W (WO : Nat → Option Nat) (n o : Nat) : Nat → Option Nat := fun k => if k = n then some o else WO k
theorem gv_le {pk tk n B : Nat} (h1 : pk ≤ B) (h2 : n + 1 ≤ B) : gv_pk pk tk n ≤ B := by unfold gv_pk; split <;> omega
section TD
variable {sz : Nat} {op : Nat → Nat} {num : Nat → Int32} {mf start p nc0 : Nat} {x0 x x' : ty_X} {G : ty_G} {L nc tk pk : Nat} {N : List Nat} {WO : Nat → Option Nat} {mo mt ma mb K wo : Nat → Int32} {nc' tk' pk' : Nat} {N' : List Nat} {K' : Nat → Int32}
theorem td_stk (hJ : ti_J sz op num mf start p nc0 x0 x G L nc tk pk N WO mo mt ma mb K wo) (hx' : xr_R x' (mf + L) nc' (tb_n G L) tk' pk' N' mo mt ma mb K' wo)
    (h1 : nc ≤ nc') (h2 : nc' ≤ nc + 1) (hK : ∀ i, i < nc → K' i = K i) (h3 : tk ≤ tk') (h4 : tk' ≤ tk + 2) (h5 : pk ≤ pk') (h6 : pk' ≤ 3 * (p + 1 - start)) (h7 : N'.length ≤ N.length + 3)
    (h8 : N'.length ≤ pk' + tk') (hN : ∀ o, o ∈ N' → to_ok nc' tk' (tb_n G L) o)
    (hs : ∀ (K2 : Nat → Int32), (∀ i, i < nc' → K2 i = K' i) → ∀ (S0 : List Int32) (R : List Nat) (I O : List Int32) (W0 tmp : Nat → Int32) (S : List Int32) (W : Nat → Int32), tk' ≤ S0.length → S0.length + pk' ≤ 16 →
      ti_f K2 (tv_old S0) tmp W0 S0 G L tk N WO S W → am_s1 sz op num (p, S, R, I, O, W) (p + 1, tv_S (tv_v K2 (tv_old S0) tmp) S0 N' tk', R, I, O, W)) :
    ti_I sz op num mf start (p + 1) nc0 x0 x' := by
  obtain ⟨hx, hrep, hwo, hst, hsem, ⟨b0, b1, b2, b3, b4, b5, b6⟩, f1, f2, f3⟩ := hJ
  refine ⟨G, L, nc', tk', pk', N', WO, mo, mt, ma, mb, K', wo, hx', hrep, hwo, ti_st_stk hst h1 h3 hN h8, ?_, ⟨by omega, by omega, by omega, by omega, by omega, by omega, h6⟩, f1, by omega, fun i hi => (hK i (by omega)).trans (f3 i hi)⟩
  refine ts_step hsem b1 h1 hK h3 h5 (fun K2 hag S0 R I O W0 tmp S W q1 q2 hf => ?_)
  exact ⟨tmp, _, W, ti_f_stk hf, hs K2 hag S0 R I O W0 tmp S W q1 q2 hf⟩
theorem rep_up {g : Nat × Nat × Nat × Nat} (hg4 : g.2.2.2 < 32768) (h : ti_rep mf L G mo mt ma mb) : ti_rep mf (L + 1) (up_G G L g) (upd mo (mf + L) (nI g.1)) (upd mt (mf + L) (nI g.2.1)) (upd ma (mf + L) (nI g.2.2.1)) (upd mb (mf + L) (nI g.2.2.2)) := by
  intro k hk
  by_cases e : k = L
  · subst e; rw [up_s]; exact ⟨pk_us, pk_us, pk_us, pk_us, hg4⟩
  · rw [up_n e, pk_un (by omega), pk_un (by omega), pk_un (by omega), pk_un (by omega)]; exact h k (by omega)
theorem fr_up {g : Nat × Nat × Nat × Nat} (h : ti_fr mf nc0 x0 mo mt ma mb K nc) : ti_fr mf nc0 x0 (upd mo (mf + L) (nI g.1)) (upd mt (mf + L) (nI g.2.1)) (upd ma (mf + L) (nI g.2.2.1)) (upd mb (mf + L) (nI g.2.2.2)) K nc := by
  refine ⟨fun i hi => ?_, h.2.1, h.2.2⟩
  rw [pk_un (by omega), pk_un (by omega), pk_un (by omega), pk_un (by omega)]; exact h.1 i hi
/-- a new temporary, and it is given -/
theorem td_new {g : Nat × Nat × Nat × Nat} {WO' : Nat → Option Nat} {wo' : Nat → Int32} {N2 : List Nat} (hg4 : g.2.2.2 < 32768) (hp : p < 40) (hJ : ti_J sz op num mf start p nc0 x0 x G L nc tk pk N WO mo mt ma mb K wo)
    (hx' : xr_R x' (mf + L + 1) nc (tb_n G L + 1) tk' pk' ((2000 + tb_n G L) :: N2) (upd mo (mf + L) (nI g.1)) (upd mt (mf + L) (nI g.2.1)) (upd ma (mf + L) (nI g.2.2.1)) (upd mb (mf + L) (nI g.2.2.2)) K wo')
    (h3 : tk ≤ tk') (h4 : tk' ≤ tk + 2) (h5 : pk ≤ pk') (h6 : pk' ≤ 3 * (p + 1 - start)) (h7 : N2.length ≤ N.length) (h8 : N2.length + 1 ≤ pk' + tk') (hN : ∀ o, o ∈ N2 → to_ok nc tk' (tb_n G L) o)
    (hg : g.1 ≠ 17) (hgt : g.2.1 = 2000 + tb_n G L) (hgm : (g.1 = 16 ∧ g.2.2.1 < 64 ∧ WO g.2.2.1 = none) ∨ (to_sum g.1 ∧ to_ok nc tk' (tb_n G L) g.2.2.1 ∧ to_ok nc tk' (tb_n G L) g.2.2.2))
    (hWO : (WO' = WO ∧ wo' = wo) ∨ (g.1 = 16 ∧ WO' = up_W WO g.2.2.1 (2000 + tb_n G L) ∧ wo' = upd wo g.2.2.1 (nI (2000 + tb_n G L))))
    (hs : ∀ (K2 : Nat → Int32), (∀ i, i < nc → K2 i = K i) → ∀ (S0 : List Int32) (R : List Nat) (I O : List Int32) (W0 tmp : Nat → Int32) (S : List Int32) (W : Nat → Int32), tk' ≤ S0.length → S0.length + pk' ≤ 16 →
      ti_f K2 (tv_old S0) tmp W0 S0 G L tk N WO S W →
      am_s1 sz op num (p, S, R, I, O, W) (p + 1, (if g.1 = 16 then W g.2.2.1 else am_val g.1 (tv_v K2 (tv_old S0) tmp g.2.2.1) (tv_v K2 (tv_old S0) tmp g.2.2.2)) :: tv_S (tv_v K2 (tv_old S0) tmp) S0 N2 tk', R, I, O, W)) :
    ti_I sz op num mf start (p + 1) nc0 x0 x' := by
  obtain ⟨hx, hrep, hwo, hst, hsem, ⟨b0, b1, b2, b3, b4, b5, b6⟩, hfr⟩ := hJ
  have hst2 : ti_st G L nc (tb_n G L) tk' pk' N2 WO := ti_st_stk hst (Nat.le_refl _) h3 hN (by omega)
  have etb : tb_n (up_G G L g) (L + 1) = tb_n G L + 1 := by rw [tb_n, up_s, if_neg hg, up_tb (Nat.le_refl _)]
  have htm : tb_n G L ≤ L := tb_le
  have hsum : to_sum g.1 → ¬ g.1 = 16 := fun z y => by unfold to_sum at z; omega
  refine ⟨up_G G L g, L + 1, nc, tk', pk', (2000 + tb_n G L) :: N2, WO', _, _, _, _, K, wo', ?_, rep_up (g := g) hg4 hrep, ?_, ?_, ?_, ⟨by omega, by omega, by omega, by omega, by omega, by rw [List.length_cons]; omega, h6⟩, fr_up hfr⟩
  · rw [etb]; exact hx'
  · rcases hWO with ⟨e1, e2⟩ | ⟨e0, e1, e2⟩
    · rw [e1, e2]; exact hwo
    · rw [e1, e2]
      intro n hn
      unfold up_W
      by_cases e : n = g.2.2.1
      · rw [if_pos e, e, pk_us]; exact ⟨fun z => (by cases z), fun o ho => by cases ho; rfl⟩
      · rw [if_neg e, pk_un e]; exact hwo n hn
  · rw [etb]
    refine ⟨?_, ?_, ?_, etb.symm, ?_, by rw [List.length_cons]; omega⟩
    · intro o ho
      rcases List.mem_cons.mp ho with rfl | ho
      · exact Or.inr (Or.inr ⟨by omega, by omega⟩)
      · exact to_mono (hN o ho) (Nat.le_refl _) (Nat.le_refl _) (Nat.le_succ _)
    · intro n o hn ho
      have old : ∀ o, WO n = some o → to_ok nc tk' (tb_n G L + 1) o := fun o ho => to_mono (hst2.2.1 n o hn ho) (Nat.le_refl _) (Nat.le_refl _) (Nat.le_succ _)
      rcases hWO with ⟨e1, e2⟩ | ⟨e0, e1, e2⟩
      · rw [e1] at ho; exact old o ho
      · rw [e1] at ho
        unfold up_W at ho
        by_cases e : n = g.2.2.1
        · rw [if_pos e] at ho; cases ho; exact Or.inr (Or.inr ⟨by omega, by omega⟩)
        · rw [if_neg e] at ho; exact old o ho
    · intro k hk
      by_cases e : k = L
      · subst e
        unfold mi_ok
        rw [up_s, up_tb (Nat.le_refl _)]
        rcases hgm with ⟨g1, g2, g3⟩ | ⟨g1, g2, g3⟩
        · refine Or.inr (Or.inl ⟨g1, hgt, g2, fun j hj => ?_⟩)
          rw [up_n (by omega)]; exact hst2.2.2.2.2.1 _ g2 g3 j hj
        · exact Or.inr (Or.inr ⟨g1, hgt, g2, g3⟩)
      · exact mi_up (by omega) (hst2.2.2.1 k (by omega)) (Nat.le_refl _) (Nat.le_refl _)
    · intro n hn hno k hk
      by_cases e : k = L
      · subst e; rw [up_s]; exact fun z => hg z.1
      · rw [up_n e]
        refine hst2.2.2.2.2.1 n hn ?_ k (by omega)
        rcases hWO with ⟨e1, e2⟩ | ⟨e0, e1, e2⟩
        · rw [← e1]; exact hno
        · rw [e1] at hno
          unfold up_W at hno
          by_cases e : n = g.2.2.1
          · rw [if_pos e] at hno; cases hno
          · rw [if_neg e] at hno; exact hno
  · refine ts_step hsem b1 (Nat.le_refl _) (fun i _ => rfl) h3 h5 (fun K2 hag S0 R I O W0 tmp S W q1 q2 hf => ?_)
    have hs1 := hs K2 hag S0 R I O W0 tmp S W q1 q2 hf
    have hf2 : ti_f K2 (tv_old S0) tmp W0 S0 G L tk' N2 WO (tv_S (tv_v K2 (tv_old S0) tmp) S0 N2 tk') W := ti_f_stk hf
    have hWn : g.1 = 16 → W g.2.2.1 = W0 g.2.2.1 := by
      intro z
      rcases hgm with ⟨g1, g2, g3⟩ | ⟨g1, g2, g3⟩
      · exact (hf.2.2.1 _ g2).1 g3
      · exact absurd z (hsum g1)
    have hT := tm_new (g := g) (w := if g.1 = 16 then W g.2.2.1 else am_val g.1 (tv_v K2 (tv_old S0) tmp g.2.2.1) (tv_v K2 (tv_old S0) tmp g.2.2.2)) (by omega) (by omega) hst2 hf2 hg hgt (fun z => by rw [if_pos z]; exact hWn z) (fun z => by
      rw [if_neg (hsum z)]
      rcases hgm with ⟨g1, g2, g3⟩ | ⟨g1, g2, g3⟩
      · exact absurd g1 (hsum z)
      · exact ⟨rfl, g2, g3⟩)
    obtain ⟨⟨t1, t2, t3, t4⟩, tv⟩ := hT
    rw [t1] at hs1
    refine ⟨_, _, W, ⟨?_, t2, ?_, t4⟩, hs1⟩
    · rw [tv_S_cons, tv]
    · intro n hn
      rcases hWO with ⟨e1, e2⟩ | ⟨e0, e1, e2⟩
      · rw [e1]; exact t3 n hn
      · rw [e1]
        unfold up_W
        by_cases e : n = g.2.2.1
        · rw [if_pos e]
          refine ⟨fun z => (by cases z), fun o ho => ?_⟩
          cases ho
          rw [tv, if_pos e0, e]
        · rw [if_neg e]; exact t3 n hn
/-- a SET -/
theorem td_set {n o : Nat} {N2 : List Nat} (hp : p < 40) (hn : n < 64) (hJ : ti_J sz op num mf start p nc0 x0 x G L nc tk pk N WO mo mt ma mb K wo)
    (hx' : xr_R x' (mf + L + 1) nc (tb_n G L) tk' pk N2 (upd mo (mf + L) (nI 17)) (upd mt (mf + L) (nI n)) (upd ma (mf + L) (nI o)) (upd mb (mf + L) (nI 0)) K (upd wo n (nI o)))
    (h3 : tk ≤ tk') (h4 : tk' ≤ tk + 2) (h7 : N2.length ≤ N.length) (h8 : N2.length ≤ pk + tk') (hN : ∀ o, o ∈ N2 → to_ok nc tk' (tb_n G L) o) (ho : to_ok nc tk' (tb_n G L) o)
    (hs : ∀ (K2 : Nat → Int32), (∀ i, i < nc → K2 i = K i) → ∀ (S0 : List Int32) (R : List Nat) (I O : List Int32) (W0 tmp : Nat → Int32) (S : List Int32) (W : Nat → Int32), tk' ≤ S0.length → S0.length + pk ≤ 16 →
      ti_f K2 (tv_old S0) tmp W0 S0 G L tk N WO S W →
      am_s1 sz op num (p, S, R, I, O, W) (p + 1, tv_S (tv_v K2 (tv_old S0) tmp) S0 N2 tk', R, I, O, upd W n (tv_v K2 (tv_old S0) tmp o))) :
    ti_I sz op num mf start (p + 1) nc0 x0 x' := by
  obtain ⟨hx, hrep, hwo, hst, hsem, ⟨b0, b1, b2, b3, b4, b5, b6⟩, hfr⟩ := hJ
  have hst2 : ti_st G L nc (tb_n G L) tk' pk N2 WO := ti_st_stk hst (Nat.le_refl _) h3 hN h8
  have etb : tb_n (up_G G L (17, n, o, 0)) (L + 1) = tb_n G L := by rw [tb_n, up_s, if_pos rfl, up_tb (Nat.le_refl _)]; rfl
  refine ⟨up_G G L (17, n, o, 0), L + 1, nc, tk', pk, N2, up_W WO n o, _, _, _, _, K, upd wo n (nI o), ?_, rep_up (g := (17, n, o, 0)) (show 0 < 32768 by decide) hrep, ?_, ?_, ?_, ⟨by omega, by omega, by omega, by omega, by omega, by omega, by omega⟩, fr_up hfr⟩
  · rw [etb]; exact hx'
  · intro k hk
    unfold up_W
    by_cases e : k = n
    · rw [if_pos e, e, pk_us]; exact ⟨fun z => (by cases z), fun o ho => by cases ho; rfl⟩
    · rw [if_neg e, pk_un e]; exact hwo k hk
  · rw [etb]
    refine ⟨hN, ?_, ?_, etb.symm, ?_, h8⟩
    · intro k o' hk ho'
      unfold up_W at ho'
      by_cases e : k = n
      · rw [if_pos e] at ho'; cases ho'; exact ho
      · rw [if_neg e] at ho'; exact hst2.2.1 k o' hk ho'
    · intro k hk
      by_cases e : k = L
      · subst e
        unfold mi_ok
        rw [up_s, up_tb (Nat.le_refl _)]
        exact Or.inl ⟨rfl, hn, ho⟩
      · exact mi_up (by omega) (hst2.2.2.1 k (by omega)) (Nat.le_refl _) (Nat.le_refl _)
    · intro k hk hno j hj
      unfold up_W at hno
      by_cases e : k = n
      · rw [if_pos e] at hno; cases hno
      · rw [if_neg e] at hno
        by_cases e2 : j = L
        · subst e2; rw [up_s]; exact fun z => e z.2.symm
        · rw [up_n e2]; exact hst2.2.2.2.2.1 k hk hno j (by omega)
  · refine ts_step hsem b1 (Nat.le_refl _) (fun i _ => rfl) h3 (Nat.le_refl _) (fun K2 hag S0 R I O W0 tmp S W q1 q2 hf => ?_)
    have hs1 := hs K2 hag S0 R I O W0 tmp S W q1 q2 hf
    refine ⟨tmp, _, _, ⟨rfl, tm_eqs hf.2.1 ⟨fun z => absurd z (show ¬ (17 : Nat) = 16 by decide), fun z => absurd z (show ¬ to_sum 17 by unfold to_sum; decide)⟩, ?_, ?_⟩, hs1⟩
    · intro k hk
      unfold up_W
      by_cases e : k = n
      · rw [if_pos e, e, pk_us]; exact ⟨fun z => (by cases z), fun o ho => by cases ho; rfl⟩
      · rw [if_neg e, pk_un e]; exact hf.2.2.1 k hk
    · intro k hk
      rw [tm_ws]
      by_cases e : k = n
      · rw [if_pos ⟨rfl, e.symm⟩, e, pk_us]
      · rw [if_neg (fun z => e z.2.symm), pk_un e]; exact hf.2.2.2 k hk
end TD
end
section
section XE
variable {c : ty_C} {m : ty_M} {e : ty_E} {b : ty_B} {x : ty_X} {d : ty_D} {mi nc tm tk pk : Nat} {N : List Nat} {mo mt ma mb K wo : Nat → Int32}
theorem xe_take {post : Int32 → SX → Prop} (hN : N.length ≤ 160) (ht : tk ≤ 890) (hok : ∀ o, o ∈ N → to_ok nc tk tm o) (h : xr_R x mi nc tm tk pk N mo mt ma mb K wo)
    (k : ∀ o N1 tk1 x', N1.length ≤ N.length → tk ≤ tk1 → tk1 ≤ tk + 1 → N1.length + tk + 1 = N.length + tk1 → to_ok nc tk1 tm o → (∀ o, o ∈ N1 → to_ok nc tk1 tm o) →
      (∀ (K' tmp : Nat → Int32) (S0 : List Int32), tk1 ≤ S0.length → tv_S (tv_v K' (tv_old S0) tmp) S0 N tk = tv_v K' (tv_old S0) tmp o :: tv_S (tv_v K' (tv_old S0) tmp) S0 N1 tk1) →
      xr_R x' mi nc tm tk1 pk N1 mo mt ma mb K wo → post (nI o) (mk_S c m e b x' d)) : wpX_take post (mk_S c m e b x d) := by
  refine xa_take hN (by omega) h (fun x' hx' => k _ _ _ x' ?_ ?_ ?_ ?_ ?_ ?_ ?_ hx')
  · exact tk_f_len.1
  · exact tk_f_len.2.1
  · exact tk_f_len.2.2.1
  · exact tk_f_len.2.2.2
  · exact (tk_f_ok hok).1
  · exact (tk_f_ok hok).2
  · exact fun K' tmp S0 hl => tv_take hl (by omega)
theorem xe_give {post : SX → Prop} (o : Nat) (ho : o < 32768) (hN : N.length < 160) (ht : tk ≤ 900) (hp : pk ≤ 900) (h : xr_R x mi nc tm tk pk N mo mt ma mb K wo)
    (k : ∀ pk' x', pk ≤ pk' → N.length + 1 ≤ pk' + tk → (∀ B, pk ≤ B → N.length + 1 ≤ B → pk' ≤ B) → xr_R x' mi nc tm tk pk' (o :: N) mo mt ma mb K wo → post (mk_S c m e b x' d)) : wpX_give post (mk_S c m e b x d) (nI o) :=
  xa_give o ho hN ht hp h (fun x' hx' => k _ x' gv_ge.1 gv_ge.2.1 (fun _ h1 h2 => gv_le h1 h2) hx')
end XE
section XD
variable {c : ty_C} {m : ty_M} {e : ty_E} {b : ty_B} {x : ty_X} {d : ty_D} {post : SX → Prop} {sz : Nat} {op : Nat → Nat} {num : Nat → Int32} {mf start p nc0 : Nat} {x0 : ty_X} {G : ty_G} {L nc tk pk : Nat} {N : List Nat} {WO : Nat → Option Nat} {mo mt ma mb K wo : Nat → Int32}
theorem xd_0 (hp : p < sz) (hp40 : p < 40) (hop : op p = 0) (hJ : ti_J sz op num mf start p nc0 x0 x G L nc tk pk N WO mo mt ma mb K wo) (k : ∀ x', ti_I sz op num mf start (p + 1) nc0 x0 x' → post (mk_S c m e b x' d)) : wpX_translateStep post (mk_S c m e b x d) (nI 0) (num p) := by
  have hJ' := hJ
  obtain ⟨hx, hrep, hwo, hst, hsem, ⟨b0, b1, b2, b3, b4, b5, b6⟩, hfr⟩ := hJ'
  (repeat (first | refine br_t (by decide) ?_ | refine br_f (by decide) ?_))
  refine xa_const (num p) (by omega) hx (fun i x1 nc1 K1 hi hKi h1 h2 h3 hx1 => ?_)
  refine xe_give (c := c) (m := m) (e := e) (b := b) (x := x1) (d := d) i (by omega) (by omega) (by omega) (by omega) hx1 (fun pk2 x2 g1 g2 g3 hx2 => k x2 ?_)
  refine td_stk hJ hx2 h1 h2 h3 (Nat.le_refl _) (by omega) g1 (g3 _ (by omega) (by omega)) (by rw [List.length_cons]; omega) (by rw [List.length_cons]; omega) ?_ ?_
  · intro o ho
    rcases List.mem_cons.mp ho with rfl | ho
    · exact Or.inl hi
    · exact to_mono (hst.1 o ho) h1 (Nat.le_refl _) (Nat.le_refl _)
  · intro K2 hag S0 R I O W0 tmp S W q1 q2 hf
    have hv : tv_v K2 (tv_old S0) tmp i = num p := by rw [tv_c (by omega), hag i hi]; exact hKi
    refine ts_s1 hp hop (Or.inl (by omega)) ?_ (Nat.zero_le _) (ts_len (by rw [List.length_cons]; omega) q1 q2)
    rw [tv_S_cons, hv, ← hf.1]; rfl
theorem xd_1 {n : Int32} (hp : p < sz) (hp40 : p < 40) (hop : op p = 1) (hJ : ti_J sz op num mf start p nc0 x0 x G L nc tk pk N WO mo mt ma mb K wo) (k : ∀ x', ti_I sz op num mf start (p + 1) nc0 x0 x' → post (mk_S c m e b x' d)) : wpX_translateStep post (mk_S c m e b x d) (nI 1) n := by
  have hJ' := hJ
  obtain ⟨hx, hrep, hwo, hst, hsem, ⟨b0, b1, b2, b3, b4, b5, b6⟩, hfr⟩ := hJ'
  have hs6 := hst.2.2.2.2.2
  (repeat (first | refine br_t (by decide) ?_ | refine br_f (by decide) ?_))
  refine xe_take (by omega) (by omega) hst.1 hx (fun o1 N1 tk1 x1 l1 l2 l3 l4 ok1 okN1 den1 hx1 => k x1 ?_)
  refine td_stk hJ hx1 (Nat.le_refl _) (by omega) (fun i _ => rfl) l2 (by omega) (Nat.le_refl _) (by omega) (by omega) (by omega) okN1 ?_
  intro K2 hag S0 R I O W0 tmp S W q1 q2 hf
  refine ts_s1 hp hop (Or.inl (by omega)) ?_ ?_ (ts_len (by omega) q1 q2)
  · rw [hf.1, den1 K2 tmp S0 q1]; rfl
  · rw [hf.1, den1 K2 tmp S0 q1]; exact Nat.le_add_left _ _
theorem xd_2 {n : Int32} (hp : p < sz) (hp40 : p < 40) (hop : op p = 2) (hJ : ti_J sz op num mf start p nc0 x0 x G L nc tk pk N WO mo mt ma mb K wo) (k : ∀ x', ti_I sz op num mf start (p + 1) nc0 x0 x' → post (mk_S c m e b x' d)) : wpX_translateStep post (mk_S c m e b x d) (nI 2) n := by
  have hJ' := hJ
  obtain ⟨hx, hrep, hwo, hst, hsem, ⟨b0, b1, b2, b3, b4, b5, b6⟩, hfr⟩ := hJ'
  have hs6 := hst.2.2.2.2.2
  have htm : tb_n G L ≤ L := tb_le
  (repeat (first | refine br_t (by decide) ?_ | refine br_f (by decide) ?_))
  refine xe_take (by omega) (by omega) hst.1 hx (fun o1 N1 tk1 x1 l1 l2 l3 l4 ok1 okN1 den1 hx1 => ?_)
  have ho1 : o1 < 32768 := by unfold to_ok at ok1; omega
  refine xe_give (c := c) (m := m) (e := e) (b := b) (x := x1) (d := d) o1 ho1 (by omega) (by omega) (by omega) hx1 (fun pk2 x2 g1 g2 g3 hx2 => ?_)
  have g3' := g3 120 (by omega) (by omega)
  refine xe_give (c := c) (m := m) (e := e) (b := b) (x := x2) (d := d) o1 ho1 (by rw [List.length_cons]; omega) (by omega) (by omega) hx2 (fun pk3 x3 g4 g5 g6 hx3 => k x3 ?_)
  rw [List.length_cons] at g5 g6
  refine td_stk hJ hx3 (Nat.le_refl _) (by omega) (fun i _ => rfl) l2 (by omega) (by omega) (g6 _ (g3 _ (by omega) (by omega)) (by omega)) (by rw [List.length_cons, List.length_cons]; omega) (by rw [List.length_cons, List.length_cons]; omega) ?_ ?_
  · intro o ho
    rcases List.mem_cons.mp ho with rfl | ho
    · exact ok1
    · rcases List.mem_cons.mp ho with rfl | ho
      · exact ok1
      · exact okN1 o ho
  · intro K2 hag S0 R I O W0 tmp S W q1 q2 hf
    refine ts_s1 hp hop (Or.inl (by omega)) ?_ ?_ (ts_len (by rw [List.length_cons, List.length_cons]; omega) q1 q2)
    · rw [hf.1, den1 K2 tmp S0 q1]; rfl
    · rw [hf.1, den1 K2 tmp S0 q1]; exact Nat.le_add_left _ _
theorem xd_3 {n : Int32} (hp : p < sz) (hp40 : p < 40) (hop : op p = 3) (hJ : ti_J sz op num mf start p nc0 x0 x G L nc tk pk N WO mo mt ma mb K wo) (k : ∀ x', ti_I sz op num mf start (p + 1) nc0 x0 x' → post (mk_S c m e b x' d)) : wpX_translateStep post (mk_S c m e b x d) (nI 3) n := by
  have hJ' := hJ
  obtain ⟨hx, hrep, hwo, hst, hsem, ⟨b0, b1, b2, b3, b4, b5, b6⟩, hfr⟩ := hJ'
  have hs6 := hst.2.2.2.2.2
  have htm : tb_n G L ≤ L := tb_le
  (repeat (first | refine br_t (by decide) ?_ | refine br_f (by decide) ?_))
  refine xe_take (by omega) (by omega) hst.1 hx (fun o1 N1 tk1 x1 l1 l2 l3 l4 ok1 okN1 den1 hx1 => ?_)
  have ho1 : o1 < 32768 := by unfold to_ok at ok1; omega
  refine xe_take (c := c) (m := m) (e := e) (b := b) (x := x1) (d := d) (by omega) (by omega) okN1 hx1 (fun o2 N2 tk2 x2 m1 m2 m3 m4 ok2 okN2 den2 hx2 => ?_)
  have ho2 : o2 < 32768 := by unfold to_ok at ok2; omega
  have ok1' := to_mono ok1 (Nat.le_refl _) m2 (Nat.le_refl _)
  refine xe_give (c := c) (m := m) (e := e) (b := b) (x := x2) (d := d) o1 ho1 (by omega) (by omega) (by omega) hx2 (fun pk2 x3 g1 g2 g3 hx3 => ?_)
  have g3' := g3 120 (by omega) (by omega)
  refine xe_give (c := c) (m := m) (e := e) (b := b) (x := x3) (d := d) o2 ho2 (by rw [List.length_cons]; omega) (by omega) (by omega) hx3 (fun pk3 x4 g4 g5 g6 hx4 => k x4 ?_)
  rw [List.length_cons] at g5 g6
  refine td_stk hJ hx4 (Nat.le_refl _) (by omega) (fun i _ => rfl) (by omega) (by omega) (by omega) (g6 _ (g3 _ (by omega) (by omega)) (by omega)) (by rw [List.length_cons, List.length_cons]; omega) (by rw [List.length_cons, List.length_cons]; omega) ?_ ?_
  · intro o ho
    rcases List.mem_cons.mp ho with rfl | ho
    · exact ok2
    · rcases List.mem_cons.mp ho with rfl | ho
      · exact ok1'
      · exact okN2 o ho
  · intro K2 hag S0 R I O W0 tmp S W q1 q2 hf
    refine ts_s1 hp hop (Or.inl (by omega)) ?_ ?_ (ts_len (by rw [List.length_cons, List.length_cons]; omega) q1 q2)
    · rw [hf.1, den1 K2 tmp S0 (by omega), den2 K2 tmp S0 q1]; rfl
    · rw [hf.1, den1 K2 tmp S0 (by omega), den2 K2 tmp S0 q1]; exact Nat.le_add_left _ _
theorem xd_4 {n : Int32} (hp : p < sz) (hp40 : p < 40) (hop : op p = 4) (hJ : ti_J sz op num mf start p nc0 x0 x G L nc tk pk N WO mo mt ma mb K wo) (k : ∀ x', ti_I sz op num mf start (p + 1) nc0 x0 x' → post (mk_S c m e b x' d)) : wpX_translateStep post (mk_S c m e b x d) (nI 4) n := by
  have hJ' := hJ
  obtain ⟨hx, hrep, hwo, hst, hsem, ⟨b0, b1, b2, b3, b4, b5, b6⟩, hfr⟩ := hJ'
  have hs6 := hst.2.2.2.2.2
  have htm : tb_n G L ≤ L := tb_le
  (repeat (first | refine br_t (by decide) ?_ | refine br_f (by decide) ?_))
  refine xe_take (by omega) (by omega) hst.1 hx (fun o1 N1 tk1 x1 l1 l2 l3 l4 ok1 okN1 den1 hx1 => ?_)
  have ho1 : o1 < 32768 := by unfold to_ok at ok1; omega
  refine xe_take (c := c) (m := m) (e := e) (b := b) (x := x1) (d := d) (by omega) (by omega) okN1 hx1 (fun o2 N2 tk2 x2 m1 m2 m3 m4 ok2 okN2 den2 hx2 => ?_)
  have ho2 : o2 < 32768 := by unfold to_ok at ok2; omega
  have ok1' := to_mono ok1 (Nat.le_refl _) m2 (Nat.le_refl _)
  refine xe_give (c := c) (m := m) (e := e) (b := b) (x := x2) (d := d) o2 ho2 (by omega) (by omega) (by omega) hx2 (fun pk2 x3 g1 g2 g3 hx3 => ?_)
  have g3' := g3 125 (by omega) (by omega)
  refine xe_give (c := c) (m := m) (e := e) (b := b) (x := x3) (d := d) o1 ho1 (by rw [List.length_cons]; omega) (by omega) (by omega) hx3 (fun pk3 x4 g4 g5 g6 hx4 => ?_)
  rw [List.length_cons] at g5 g6
  have g6' := g6 125 (by omega) (by omega)
  refine xe_give (c := c) (m := m) (e := e) (b := b) (x := x4) (d := d) o2 ho2 (by rw [List.length_cons, List.length_cons]; omega) (by omega) (by omega) hx4 (fun pk4 x5 g7 g8 g9 hx5 => k x5 ?_)
  rw [List.length_cons, List.length_cons] at g8 g9
  refine td_stk hJ hx5 (Nat.le_refl _) (by omega) (fun i _ => rfl) (by omega) (by omega) (by omega) (g9 _ (g6 _ (g3 _ (by omega) (by omega)) (by omega)) (by omega)) (by rw [List.length_cons, List.length_cons, List.length_cons]; omega) (by rw [List.length_cons, List.length_cons, List.length_cons]; omega) ?_ ?_
  · intro o ho
    rcases List.mem_cons.mp ho with rfl | ho
    · exact ok2
    · rcases List.mem_cons.mp ho with rfl | ho
      · exact ok1'
      · rcases List.mem_cons.mp ho with rfl | ho
        · exact ok2
        · exact okN2 o ho
  · intro K2 hag S0 R I O W0 tmp S W q1 q2 hf
    refine ts_s1 hp hop (Or.inl (by omega)) ?_ ?_ (ts_len (by rw [List.length_cons, List.length_cons, List.length_cons]; omega) q1 q2)
    · rw [hf.1, den1 K2 tmp S0 (by omega), den2 K2 tmp S0 q1]; rfl
    · rw [hf.1, den1 K2 tmp S0 (by omega), den2 K2 tmp S0 q1]; exact Nat.le_add_left _ _
theorem xd_16 {n : Nat} (hn : n < 64) (hnum : num p = nI n) (hp : p < sz) (hp40 : p < 40) (hop : op p = 16) (hJ : ti_J sz op num mf start p nc0 x0 x G L nc tk pk N WO mo mt ma mb K wo) (k : ∀ x', ti_I sz op num mf start (p + 1) nc0 x0 x' → post (mk_S c m e b x' d)) : wpX_translateStep post (mk_S c m e b x d) (nI 16) (nI n) := by
  have hJ' := hJ
  obtain ⟨hx, hrep, hwo, hst, hsem, ⟨b0, b1, b2, b3, b4, b5, b6⟩, hfr⟩ := hJ'
  have hs6 := hst.2.2.2.2.2
  have htm : tb_n G L ≤ L := tb_le
  have hx0 := hx
  obtain ⟨h1, h2, h3, h4, h5, h6, h7, h8, h9, h10, h11, h12, h13⟩ := hx0
  have ew : gx_wordOperand x (nI n).toNatClampNeg = wo n := by rw [pk_cl n, h13]
  (repeat (first | refine br_t (by decide) ?_ | refine br_f (by decide) ?_))
  refine And.intro (pk_in n 64 hn) ?_
  cases hW : WO n with
  | some o =>
    have hwn := (hwo n hn).2 o hW
    have hoo := hst.2.1 n o hn hW
    have ho : o < 32768 := by unfold to_ok at hoo; omega
    have hne : ¬ gx_wordOperand x (nI n).toNatClampNeg = -1 := by
      rw [ew, hwn]
      intro z
      have z2 := congrArg Int32.toInt z
      rw [nI_toInt (by omega), show (-1 : Int32).toInt = -1 from by decide] at z2
      omega
    refine br_f hne (And.intro (pk_in n 64 hn) ?_)
    have ew2 : gx_wordOperand x (nI n).toNatClampNeg = nI o := ew.trans hwn
    show wpX_give _ (mk_S c m e b x d) (gx_wordOperand x (nI n).toNatClampNeg)
    rw [ew2]
    refine xe_give o ho (by omega) (by omega) (by omega) hx (fun pk2 x2 g1 g2 g3 hx2 => k x2 ?_)
    refine td_stk hJ hx2 (Nat.le_refl _) (by omega) (fun i _ => rfl) (Nat.le_refl _) (by omega) g1 (g3 _ (by omega) (by omega)) (by rw [List.length_cons]; omega) (by rw [List.length_cons]; omega) ?_ ?_
    · intro o' ho'
      rcases List.mem_cons.mp ho' with rfl | ho'
      · exact hoo
      · exact hst.1 o' ho'
    · intro K2 hag S0 R I O W0 tmp S W q1 q2 hf
      refine ts_s1 hp hop (Or.inr (Or.inr (Or.inl rfl))) ?_ (Nat.zero_le _) (ts_len (by rw [List.length_cons]; omega) q1 q2)
      have hv := (hf.2.2.1 n hn).2 o hW
      rw [tv_S_cons, ← hv, ← hf.1, hnum]
      show (p + 1, W (nI n).toNatClampNeg :: S, R, I, O, W) = _
      rw [pk_cl n]
  | none =>
    have hwn := (hwo n hn).1 hW
    refine br_t (ew.trans hwn) ?_
    refine nm_r (e' := nI (2000 + tb_n G L)) ?_ (nm_r (e' := nI (tb_n G L + 1)) ?_ ?_)
    · show 2000 + gx_temps x = _
      rw [h6]; exact nI_add 2000 _
    · show gx_temps x + 1 = _
      rw [h6, nI_1]
    · refine xa_add (c := c) (m := m) (e := e) (b := b) (x := (gx_micros x, gx_constants x, gx_newSize x, gx_taken x, gx_peak x, nI (tb_n G L + 1), gx_microOp x, gx_microTarget x, gx_microA x, gx_microB x, gx_constant x, gx_newStack x, gx_wordOperand x)) (d := d) (tm := tb_n G L + 1) 16 (2000 + tb_n G L) n 0 (by omega) (by omega) (by omega) (by omega) (by omega) ⟨h1, h2, h3, h4, h5, rfl, h7, h8, h9, h10, h11, h12, h13⟩ (fun x1 hx1 => ?_)
      obtain ⟨i1, i2, i3, i4, i5, i6, i7, i8, i9, i10, i11, i12, i13⟩ := hx1
      refine And.intro (pk_in n 64 hn) (nm_r (e' := upd wo n (nI (2000 + tb_n G L))) ?_ ?_)
      · show upd (gx_wordOperand x1) (nI n).toNatClampNeg (vp_nar .short (nI (2000 + tb_n G L)).toInt16.toInt32) = _
        rw [pk_cl n, i13, pk_vs, wi_s (by omega)]
      · refine And.intro (pk_in n 64 hn) ?_
        have ew2 : upd wo n (nI (2000 + tb_n G L)) (nI n).toNatClampNeg = nI (2000 + tb_n G L) := by rw [pk_cl n, pk_us]
        show wpX_give _ (mk_S c m e b ((gx_micros x1, gx_constants x1, gx_newSize x1, gx_taken x1, gx_peak x1, gx_temps x1, gx_microOp x1, gx_microTarget x1, gx_microA x1, gx_microB x1, gx_constant x1, gx_newStack x1, upd wo n (nI (2000 + tb_n G L)))) d) (upd wo n (nI (2000 + tb_n G L)) (nI n).toNatClampNeg)
        rw [ew2]
        refine xe_give (x := (gx_micros x1, gx_constants x1, gx_newSize x1, gx_taken x1, gx_peak x1, gx_temps x1, gx_microOp x1, gx_microTarget x1, gx_microA x1, gx_microB x1, gx_constant x1, gx_newStack x1, upd wo n (nI (2000 + tb_n G L)))) (wo := upd wo n (nI (2000 + tb_n G L))) (2000 + tb_n G L) (by omega) (by omega) (by omega) (by omega) ⟨i1, i2, i3, i4, i5, i6, i7, i8, i9, i10, i11, i12, rfl⟩ (fun pk2 x2 g1 g2 g3 hx2 => k x2 ?_)
        refine td_new (g := (16, 2000 + tb_n G L, n, 0)) (WO' := up_W WO n (2000 + tb_n G L)) (show 0 < 32768 by decide) hp40 hJ hx2 (Nat.le_refl _) (by omega) g1 (g3 _ (by omega) (by omega)) (Nat.le_refl _) g2 hst.1 (show (16 : Nat) ≠ 17 by decide) rfl (Or.inl ⟨rfl, hn, hW⟩) (Or.inr ⟨rfl, rfl, rfl⟩) ?_
        intro K2 hag S0 R I O W0 tmp S W q1 q2 hf
        refine ts_s1 hp hop (Or.inr (Or.inr (Or.inl rfl))) ?_ (Nat.zero_le _) ?_
        · rw [if_pos rfl, ← hf.1, hnum]
          show (p + 1, W (nI n).toNatClampNeg :: S, R, I, O, W) = _
          rw [pk_cl n]
        · rw [List.length_cons, tv_S_len]; omega
theorem xd_17 {n : Nat} (hn : n < 64) (hnum : num p = nI n) (hp : p < sz) (hp40 : p < 40) (hop : op p = 17) (hJ : ti_J sz op num mf start p nc0 x0 x G L nc tk pk N WO mo mt ma mb K wo) (k : ∀ x', ti_I sz op num mf start (p + 1) nc0 x0 x' → post (mk_S c m e b x' d)) : wpX_translateStep post (mk_S c m e b x d) (nI 17) (nI n) := by
  have hJ' := hJ
  obtain ⟨hx, hrep, hwo, hst, hsem, ⟨b0, b1, b2, b3, b4, b5, b6⟩, hfr⟩ := hJ'
  have hs6 := hst.2.2.2.2.2
  have htm : tb_n G L ≤ L := tb_le
  (repeat (first | refine br_t (by decide) ?_ | refine br_f (by decide) ?_))
  refine xe_take (by omega) (by omega) hst.1 hx (fun o1 N1 tk1 x1 l1 l2 l3 l4 ok1 okN1 den1 hx1 => ?_)
  have ho1 : o1 < 32768 := by unfold to_ok at ok1; omega
  refine xa_add (c := c) (m := m) (e := e) (b := b) (x := x1) (d := d) 17 n o1 0 (by omega) (by omega) ho1 (by omega) (by omega) hx1 (fun x2 hx2 => ?_)
  obtain ⟨i1, i2, i3, i4, i5, i6, i7, i8, i9, i10, i11, i12, i13⟩ := hx2
  refine And.intro (pk_in n 64 hn) (nm_r (e' := upd wo n (nI o1)) ?_ ?_)
  · show upd (gx_wordOperand x2) (nI n).toNatClampNeg (vp_nar .short (nI o1).toInt16.toInt32) = _
    rw [pk_cl n, i13, pk_vs, wi_s ho1]
  · refine k ((gx_micros x2, gx_constants x2, gx_newSize x2, gx_taken x2, gx_peak x2, gx_temps x2, gx_microOp x2, gx_microTarget x2, gx_microA x2, gx_microB x2, gx_constant x2, gx_newStack x2, upd wo n (nI o1))) ?_
    refine td_set (x' := (gx_micros x2, gx_constants x2, gx_newSize x2, gx_taken x2, gx_peak x2, gx_temps x2, gx_microOp x2, gx_microTarget x2, gx_microA x2, gx_microB x2, gx_constant x2, gx_newStack x2, upd wo n (nI o1))) (tk' := tk1) hp40 hn hJ ⟨i1, i2, i3, i4, i5, i6, i7, i8, i9, i10, i11, i12, rfl⟩ l2 (by omega) l1 (by omega) okN1 ok1 ?_
    intro K2 hag S0 R I O W0 tmp S W q1 q2 hf
    refine ts_s1 hp hop (Or.inr (Or.inr (Or.inr rfl))) ?_ ?_ (ts_len (pk' := pk) (by omega) q1 q2)
    · rw [hf.1, den1 K2 tmp S0 q1, hnum]
      show (p + 1, _, R, I, O, upd W (nI n).toNatClampNeg _) = _
      rw [pk_cl n]; rfl
    · rw [hf.1, den1 K2 tmp S0 q1]; exact Nat.le_add_left _ _
end XD
end
section
theorem nI_nm1 {n : Nat} (h : n < 2 ^ 31) : ¬ nI n = -1 := by
  intro z
  have z2 := congrArg Int32.toInt z
  rw [nI_toInt h, show (-1 : Int32).toInt = -1 from by decide] at z2
  omega
theorem am_comm {q : Nat} (h : q = 5 ∨ q = 7 ∨ q = 11) (y z : Int32) : am_val q y z = am_val q z y := by
  rcases h with rfl | rfl | rfl
  · exact Int32.add_comm y z
  · exact Int32.mul_comm y z
  · show (if y = z then (1 : Int32) else 0) = if z = y then 1 else 0
    by_cases e : y = z
    · rw [if_pos e, if_pos e.symm]
    · rw [if_neg e, if_neg (fun w => e w.symm)]
theorem am_go_12 {q : Nat} (h : q = 12 ∨ q = 13) (n : Int32) (p : Nat) (a : Int32) (T : List Int32) (R : List Nat) (I O : List Int32) (W : Nat → Int32) : am_go q n (p, a :: T, R, I, O, W) = (p + 1, am_val q a a :: T, R, I, O, W) := by
  rcases h with rfl | rfl
  · show (p + 1, am_val 12 (T.headD 0) a :: T, R, I, O, W) = _
    have e : am_val 12 (T.headD 0) a = am_val 12 a a := by
      show (if a = 0 then (1 : Int32) else 0) = if a = 0 then 1 else 0
      rfl
    rw [e]
  · show (p + 1, am_val 13 (T.headD 0) a :: T, R, I, O, W) = _
    have e : am_val 13 (T.headD 0) a = am_val 13 a a := by
      show -a = -a
      rfl
    rw [e]
theorem am_go_5 {q : Nat} (h : q = 5 ∨ q = 6 ∨ q = 7 ∨ q = 10 ∨ q = 11) (n : Int32) (p : Nat) (a b : Int32) (T : List Int32) (R : List Nat) (I O : List Int32) (W : Nat → Int32) : am_go q n (p, a :: b :: T, R, I, O, W) = (p + 1, am_val q b a :: T, R, I, O, W) := by
  rcases h with rfl | rfl | rfl | rfl | rfl <;> rfl
section XF
variable {c : ty_C} {m : ty_M} {e : ty_E} {b : ty_B} {x xs : ty_X} {d : ty_D} {post : SX → Prop} {sz : Nat} {op : Nat → Nat} {num : Nat → Int32} {mf start p nc0 : Nat} {x0 : ty_X} {G : ty_G} {L nc tk pk : Nat} {N : List Nat} {WO : Nat → Option Nat} {mo mt ma mb K wo : Nat → Int32}
theorem xf_35 {q oa ob tk2 bi : Nat} {N2 : List Nat} (hbi : bi < 41) (hb : gb_blocks b = nI bi) (hfm : gb_microFrom b bi = nI mf) (hq : to_sum q) (hp40 : p < 40) (hJ : ti_J sz op num mf start p nc0 x0 x G L nc tk pk N WO mo mt ma mb K wo)
    (hxs : xr_R xs (mf + L) nc (tb_n G L) tk2 pk N2 mo mt ma mb K wo) (t1 : tk ≤ tk2) (t2 : tk2 ≤ tk + 2) (t3 : N2.length ≤ N.length) (hN2 : ∀ o, o ∈ N2 → to_ok nc tk2 (tb_n G L) o) (hoa : to_ok nc tk2 (tb_n G L) oa) (hob : to_ok nc tk2 (tb_n G L) ob)
    (hgo : ∀ (K2 : Nat → Int32), (∀ i, i < nc → K2 i = K i) → ∀ (S0 : List Int32) (R : List Nat) (I O : List Int32) (W0 tmp : Nat → Int32) (S : List Int32) (W : Nat → Int32), tk2 ≤ S0.length → N2.length + 1 + (S0.length - tk2) ≤ 16 →
      ti_f K2 (tv_old S0) tmp W0 S0 G L tk N WO S W → am_s1 sz op num (p, S, R, I, O, W) (p + 1, am_val q (tv_v K2 (tv_old S0) tmp ob) (tv_v K2 (tv_old S0) tmp oa) :: tv_S (tv_v K2 (tv_old S0) tmp) S0 N2 tk2, R, I, O, W))
    (k : ∀ x', ti_I sz op num mf start (p + 1) nc0 x0 x' → post (mk_S c m e b x' d)) : lo_translateSum_35 post (nI q) (nI oa) (nI ob) c m e b xs d := by
  have hJ' := hJ
  obtain ⟨hx, hrep, hwo, hst, hsem, ⟨b0, b1, b2, b3, b4, b5, b6⟩, hfr⟩ := hJ'
  have hs6 := hst.2.2.2.2.2
  have htm : tb_n G L ≤ L := tb_le
  have hoa' : oa < 32768 := by unfold to_ok at hoa; omega
  have hob' : ob < 32768 := by unfold to_ok at hob; omega
  have hq13 : q ≤ 13 := by unfold to_sum at hq; omega
  -- an operand of that value is given
  have kgive : ∀ (i nc1 : Nat) (x1 : ty_X) (K1 : Nat → Int32), nc ≤ nc1 → nc1 ≤ nc + 1 → (∀ j, j < nc → K1 j = K j) → to_ok nc1 tk2 (tb_n G L) i → xr_R x1 (mf + L) nc1 (tb_n G L) tk2 pk N2 mo mt ma mb K1 wo →
      (∀ (K2 : Nat → Int32), (∀ j, j < nc1 → K2 j = K1 j) → ∀ (S0 : List Int32) (W0 tmp : Nat → Int32) (S : List Int32) (W : Nat → Int32), ti_f K2 (tv_old S0) tmp W0 S0 G L tk N WO S W → tv_v K2 (tv_old S0) tmp i = am_val q (tv_v K2 (tv_old S0) tmp ob) (tv_v K2 (tv_old S0) tmp oa)) →
      wpX_give post (mk_S c m e b x1 d) (nI i) := by
    intro i nc1 x1 K1 n1 n2 n3 hi hx1 hv
    have hi' : i < 32768 := by unfold to_ok at hi; omega
    refine xe_give i hi' (by omega) (by omega) (by omega) hx1 (fun pk2 x2 g1 g2 g3 hx2 => k x2 ?_)
    refine td_stk hJ hx2 n1 n2 n3 t1 t2 g1 (g3 _ (by omega) (by omega)) (by rw [List.length_cons]; omega) (by rw [List.length_cons]; omega) ?_ ?_
    · intro o ho
      rcases List.mem_cons.mp ho with rfl | ho
      · exact hi
      · exact to_mono (hN2 o ho) n1 (Nat.le_refl _) (Nat.le_refl _)
    · intro K2 hag S0 R I O W0 tmp S W q1 q2 hf
      rw [tv_S_cons, hv K2 hag S0 W0 tmp S W hf]
      exact hgo K2 (fun j hj => (hag j (by omega)).trans (n3 j hj)) S0 R I O W0 tmp S W q1 (by omega) hf
  unfold lo_translateSum_35 wX_translateSum_35
  refine xb_main (c := c) (m := m) (e := e) (b := b) (x := xs) (d := d) hq (by omega) hoa hob hoa' hob' hxs ?_ ?_
  · -- not simple
    refine br_t rfl ?_
    refine xc_main (c := c) (m := m) (e := e) (b := b) (x := xs) (d := d) hbi hb hfm (by omega) hq13 (by omega) hxs ?_ ?_
    · obtain ⟨h1, h2, h3, h4, h5, h6, h7, h8, h9, h10, h11, h12, h13⟩ := hxs
      refine br_t rfl (nm_r (e' := nI (2000 + tb_n G L)) ?_ (nm_r (e' := nI (tb_n G L + 1)) ?_ ?_))
      · show 2000 + gx_temps xs = _
        rw [h6]; exact nI_add 2000 _
      · show gx_temps xs + 1 = _
        rw [h6, nI_1]
      · refine xa_add (c := c) (m := m) (e := e) (b := b) (x := (gx_micros xs, gx_constants xs, gx_newSize xs, gx_taken xs, gx_peak xs, nI (tb_n G L + 1), gx_microOp xs, gx_microTarget xs, gx_microA xs, gx_microB xs, gx_constant xs, gx_newStack xs, gx_wordOperand xs)) (d := d) (tm := tb_n G L + 1) q (2000 + tb_n G L) ob oa (by omega) (by omega) hob' hoa' (by omega) ⟨h1, h2, h3, h4, h5, rfl, h7, h8, h9, h10, h11, h12, h13⟩ (fun x1 hx1 => ?_)
        refine xe_give (c := c) (m := m) (e := e) (b := b) (x := x1) (d := d) (2000 + tb_n G L) (by omega) (by omega) (by omega) (by omega) hx1 (fun pk2 x2 g1 g2 g3 hx2 => k x2 ?_)
        have hq16 : ¬ q = 16 := by omega
        refine td_new (g := (q, 2000 + tb_n G L, ob, oa)) (WO' := WO) hoa' hp40 hJ hx2 t1 t2 g1 (g3 _ (by omega) (by omega)) t3 g2 hN2 (show q ≠ 17 by omega) rfl (Or.inr ⟨hq, hob, hoa⟩) (Or.inl ⟨rfl, rfl⟩) ?_
        intro K2 hag S0 R I O W0 tmp S W q1 q2 hf
        rw [if_neg hq16]
        exact hgo K2 hag S0 R I O W0 tmp S W q1 (by omega) hf
    · intro kk hk1 hk2 hsa
      obtain ⟨k', rfl⟩ : ∃ k', kk = mf + k' := ⟨kk - mf, by omega⟩
      have hk' : k' < L := by omega
      obtain ⟨r1, r2, r3, r4, -⟩ := hrep k' hk'
      have hm := hst.2.2.1 k' hk'
      have hG1 : (G k').1 ≤ 17 := by
        rcases hm with hm | hm | hm
        · omega
        · omega
        · have := hm.1; unfold to_sum at this; omega
      have eq1 : (G k').1 = q := (nI_eq (by omega) (by omega)).mp (r1.symm.trans hsa.1)
      have hm3 : to_sum (G k').1 ∧ (G k').2.1 = 2000 + tb_n G k' ∧ to_ok nc tk (tb_n G k') (G k').2.2.1 ∧ to_ok nc tk (tb_n G k') (G k').2.2.2 := by
        rcases hm with hm | hm | hm
        · omega
        · omega
        · exact hm
      obtain ⟨m1, m2, m3, m4⟩ := hm3
      have htl : tb_n G k' < tb_n G L := tb_lt hk' (by omega)
      have hA : (G k').2.2.1 < 2 ^ 31 := by unfold to_ok at m3; omega
      have hB : (G k').2.2.2 < 2 ^ 31 := by unfold to_ok at m4; omega
      have eop : (G k').2.2.1 = ob ∧ (G k').2.2.2 = oa ∨ ((q = 5 ∨ q = 7 ∨ q = 11) ∧ (G k').2.2.1 = oa ∧ (G k').2.2.2 = ob) := by
        rcases hsa.2 with ⟨s1, s2⟩ | ⟨s0, s1, s2⟩
        · exact Or.inl ⟨(nI_eq hA (by omega)).mp (r3.symm.trans s1), (nI_eq hB (by omega)).mp (r4.symm.trans s2)⟩
        · exact Or.inr ⟨s0, (nI_eq hA (by omega)).mp (r3.symm.trans s1), (nI_eq hB (by omega)).mp (r4.symm.trans s2)⟩
      rw [r2, m2]
      refine br_f (nI_nm1 (by omega)) ?_
      refine kgive (2000 + tb_n G k') nc xs K (Nat.le_refl _) (Nat.le_succ _) (fun j _ => rfl) (Or.inr (Or.inr ⟨by omega, by omega⟩)) hxs ?_
      intro K2 hag S0 W0 tmp S W hf
      have he := (hf.2.1 k' hk').2 m1
      rw [m2, eq1] at he
      have ev : tv_v K2 (tv_old S0) tmp (2000 + tb_n G k') = tmp (2000 + tb_n G k' - 2000) := by unfold tv_v; rw [if_neg (by omega)]
      rw [ev, he]
      rcases eop with ⟨e1, e2⟩ | ⟨e0, e1, e2⟩
      · rw [e1, e2]
      · rw [e1, e2]; exact am_comm e0 _ _
  · intro i x1 nc1 K1 hi n1 n2 n3 hsi hx1
    have hi' : i < 32768 := by unfold to_ok at hi; omega
    refine br_f (nI_nm1 (by omega)) ?_
    exact kgive i nc1 x1 K1 n1 n2 n3 hi hx1 (fun K2 hag S0 W0 tmp S W _ => hsi K2 (tv_old S0) tmp hag)
theorem xf_sum {q bi : Nat} {n : Int32} (hbi : bi < 41) (hb : gb_blocks b = nI bi) (hfm : gb_microFrom b bi = nI mf) (hq : to_sum q) (hp : p < sz) (hp40 : p < 40) (hop : op p = q) (hJ : ti_J sz op num mf start p nc0 x0 x G L nc tk pk N WO mo mt ma mb K wo)
    (k : ∀ x', ti_I sz op num mf start (p + 1) nc0 x0 x' → post (mk_S c m e b x' d)) : wpX_translateSum post (mk_S c m e b x d) (nI q) := by
  have hJ' := hJ
  obtain ⟨hx, hrep, hwo, hst, hsem, ⟨b0, b1, b2, b3, b4, b5, b6⟩, hfr⟩ := hJ'
  have hs6 := hst.2.2.2.2.2
  have htm : tb_n G L ≤ L := tb_le
  have hq13 : q ≤ 13 := by unfold to_sum at hq; omega
  unfold wpX_translateSum mk_S; dsimp only
  refine xe_take (c := c) (m := m) (e := e) (b := b) (x := x) (d := d) (by omega) (by omega) hst.1 hx (fun o1 N1 tk1 x1 l1 l2 l3 l4 ok1 okN1 den1 hx1 => ?_)
  have hsi : is_sim q := by unfold to_sum at hq; unfold is_sim; omega
  have h17 : (q = 12 ∨ q = 13) → lo_translateSum_17 post (nI q) (nI o1) c m e b x1 d := by
    intro hz
    refine br_f (by decide) ?_
    refine xf_35 hbi hb hfm hq hp40 hJ hx1 l2 (by omega) l1 okN1 ok1 ok1 ?_ k
    intro K2 hag S0 R I O W0 tmp S W q1 q2 hf
    refine ts_s1 hp hop hsi ?_ ?_ (by rw [List.length_cons, tv_S_len]; omega)
    · rw [hf.1, den1 K2 tmp S0 q1]
      exact am_go_12 hz _ _ _ _ _ _ _ _
    · rw [hf.1, den1 K2 tmp S0 q1]
      rcases hz with rfl | rfl <;> exact Nat.le_add_left _ _
  refine pk_eq q 12 (fun z => h17 (Or.inl z)) (fun z12 => pk_eq q 13 (fun z => h17 (Or.inr z)) (fun z13 => ?_))
  refine br_t rfl ?_
  refine xe_take (c := c) (m := m) (e := e) (b := b) (x := x1) (d := d) (by omega) (by omega) okN1 hx1 (fun o2 N2 tk2 x2 m1 m2 m3 m4 ok2 okN2 den2 hx2 => ?_)
  refine xf_35 hbi hb hfm hq hp40 hJ hx2 (by omega) (by omega) (by omega) okN2 (to_mono ok1 (Nat.le_refl _) m2 (Nat.le_refl _)) ok2 ?_ k
  intro K2 hag S0 R I O W0 tmp S W q1 q2 hf
  have hc : q = 5 ∨ q = 6 ∨ q = 7 ∨ q = 10 ∨ q = 11 := by unfold to_sum at hq; omega
  refine ts_s1 hp hop hsi ?_ ?_ (by rw [List.length_cons, tv_S_len]; omega)
  · rw [hf.1, den1 K2 tmp S0 (by omega), den2 K2 tmp S0 q1]
    exact am_go_5 hc _ _ _ _ _ _ _ _ _
  · rw [hf.1, den1 K2 tmp S0 (by omega), den2 K2 tmp S0 q1]
    rcases hc with rfl | rfl | rfl | rfl | rfl <;> exact Nat.le_add_left _ _
/-- one step of the translation -/
theorem xf_step {bi : Nat} {n : Int32} (hbi : bi < 41) (hb : gb_blocks b = nI bi) (hfm : gb_microFrom b bi = nI mf) (hsi : is_sim (op p)) (hnum : am_num (op p) (num p)) (hn : (op p = 0 ∨ op p = 16 ∨ op p = 17) → n = num p) (hp : p < sz) (hp40 : p < 40) (hI : ti_I sz op num mf start p nc0 x0 x)
    (k : ∀ x', ti_I sz op num mf start (p + 1) nc0 x0 x' → post (mk_S c m e b x' d)) : wpX_translateStep post (mk_S c m e b x d) (nI (op p)) n := by
  obtain ⟨G, L, nc, tk, pk, N, WO, mo, mt, ma, mb, K, wo, hJ⟩ := hI
  have hc : op p = 0 ∨ op p = 1 ∨ op p = 2 ∨ op p = 3 ∨ op p = 4 ∨ op p = 16 ∨ op p = 17 ∨ to_sum (op p) := by unfold is_sim at hsi; unfold to_sum; omega
  rcases hc with z | z | z | z | z | z | z | z
  · rw [hn (Or.inl z), z]; exact xd_0 hp hp40 z hJ k
  · rw [z]; exact xd_1 hp hp40 z hJ k
  · rw [z]; exact xd_2 hp hp40 z hJ k
  · rw [z]; exact xd_3 hp hp40 z hJ k
  · rw [z]; exact xd_4 hp hp40 z hJ k
  · obtain ⟨j, hj, ej⟩ := hnum.1 (Or.inl z)
    rw [hn (Or.inr (Or.inl z)), ej, z]; exact xd_16 hj ej hp hp40 z hJ k
  · obtain ⟨j, hj, ej⟩ := hnum.1 (Or.inr z)
    rw [hn (Or.inr (Or.inr z)), ej, z]; exact xd_17 hj ej hp hp40 z hJ k
  · have hz := z
    unfold to_sum at hz
    have k0 : ∀ j, j < 2 ^ 31 → j ≠ op p → ¬ nI (op p) = nI j := fun j hj hne w => hne ((nI_eq (by omega) hj).mp w).symm
    refine br_f (k0 0 (by decide) (by omega)) (br_f (k0 1 (by decide) (by omega)) (br_f (k0 2 (by decide) (by omega)) (br_f (k0 3 (by decide) (by omega)) (br_f (k0 4 (by decide) (by omega)) (br_f (k0 16 (by decide) (by omega)) (br_f (k0 17 (by decide) (by omega)) ?_))))))
    exact xf_sum (n := n) hbi hb hfm z hp hp40 rfl hJ k
end XF
end
section
/-! running micros, and running those alone that are used -/
def mr_s (K old : Nat → Int32) (g : Nat × Nat × Nat × Nat) (s : (Nat → Int32) × (Nat → Int32)) : (Nat → Int32) × (Nat → Int32) :=
  if g.1 = 17 then (s.1, upd s.2 g.2.1 (tv_v K old s.1 g.2.2.1))
  else if g.1 = 16 then (upd s.1 (g.2.1 - 2000) (s.2 g.2.2.1), s.2)
  else (upd s.1 (g.2.1 - 2000) (am_val g.1 (tv_v K old s.1 g.2.2.1) (tv_v K old s.1 g.2.2.2)), s.2)
def mr_run (K old : Nat → Int32) (G : ty_G) : Nat → (Nat → Int32) × (Nat → Int32) → (Nat → Int32) × (Nat → Int32)
  | 0, s => s
  | k + 1, s => mr_s K old (G k) (mr_run K old G k s)
def mr_k (K old : Nat → Int32) (G : ty_G) (u : Nat → Int32) : Nat → (Nat → Int32) × (Nat → Int32) → (Nat → Int32) × (Nat → Int32)
  | 0, s => s
  | k + 1, s => if u k = 0 then mr_k K old G u k s else mr_s K old (G k) (mr_k K old G u k s)
theorem mr_cg {K old : Nat → Int32} {G G' : ty_G} {s : (Nat → Int32) × (Nat → Int32)} : ∀ {k : Nat}, (∀ j, j < k → G' j = G j) → mr_run K old G' k s = mr_run K old G k s := by
  intro k
  induction k with
  | zero => intro _; rfl
  | succ k ih => intro h; rw [mr_run, mr_run, ih (fun j hj => h j (by omega)), h k (by omega)]
/-- micro j makes operand o -/
def mr_def (G : ty_G) (L o j : Nat) : Prop := j < L ∧ ¬ (G j).1 = 17 ∧ (G j).2.1 = o ∧ 2000 ≤ o
/-- what micro k uses is used -/
def mr_cl (G : ty_G) (L : Nat) (u : Nat → Int32) (k : Nat) : Prop := ¬ u k = 0 → ¬ (G k).1 = 16 →
  (∀ j, mr_def G L (G k).2.2.1 j → ¬ u j = 0) ∧ (¬ (G k).1 = 17 → ∀ j, mr_def G L (G k).2.2.2 j → ¬ u j = 0)
/-- a SET that no later one overwrites is used -/
def mr_last (G : ty_G) (L : Nat) (u : Nat → Int32) (k : Nat) : Prop := (G k).1 = 17 → (∀ j, k < j → j < L → ¬ ((G j).1 = 17 ∧ (G j).2.1 = (G k).2.1)) → ¬ u k = 0
theorem mi_tgt {G : ty_G} {nc tk k : Nat} (h : mi_ok G nc tk k) (h17 : ¬ (G k).1 = 17) : (G k).2.1 = 2000 + tb_n G k := by
  rcases h with h | h | h
  · exact absurd h.1 h17
  · exact h.2.1
  · exact h.2.1
/-- who makes an operand of micro k stands before it -/
theorem mr_before {G : ty_G} {L nc tk k o j : Nat} (hm : ∀ k, k < L → mi_ok G nc tk k) (ho : to_ok nc tk (tb_n G k) o) (hn : nc ≤ 1000) (hk : tk ≤ 900) (hd : mr_def G L o j) : j < k := by
  obtain ⟨h1, h2, h3, h4⟩ := hd
  have ht := mi_tgt (hm j h1) h2
  apply Classical.byContradiction
  intro z
  have : tb_n G k ≤ tb_n G j := tb_mono (by omega)
  unfold to_ok at ho
  omega
section MR
variable {K tmp W0 : Nat → Int32} {S0 S : List Int32} {W : Nat → Int32} {G : ty_G} {L nc tk pk : Nat} {N : List Nat} {WO : Nat → Option Nat} {u : Nat → Int32} {s0 : (Nat → Int32) × (Nat → Int32)} {old : Nat → Int32}
/-- an operand whose maker has been run has its value -/
theorem mr_val {t : Nat → Int32} {k o : Nat} (hm : ∀ k, k < L → mi_ok G nc tk k) (hn : nc ≤ 1000) (hk : tk ≤ 900) (hkL : k ≤ L) (ho : to_ok nc tk (tb_n G k) o) (hu : ∀ j, mr_def G L o j → ¬ u j = 0)
    (h1 : ∀ j, j < k → ¬ u j = 0 → ¬ (G j).1 = 17 → t (tb_n G j) = tmp (tb_n G j)) : tv_v K old t o = tv_v K old tmp o := by
  unfold tv_v
  by_cases e : o < 2000
  · rw [if_pos e, if_pos e]
  · rw [if_neg e, if_neg e]
    have hlt : o - 2000 < tb_n G k := by unfold to_ok at ho; omega
    obtain ⟨j, j1, j2, j3⟩ := tb_ex hlt
    have ht := mi_tgt (hm j (by omega)) j2
    have := h1 j j1 (hu j ⟨by omega, j2, by omega, by omega⟩) j2
    rw [j3] at this
    exact this
theorem mr_main (hm : ∀ k, k < L → mi_ok G nc tk k) (hn : nc ≤ 1000) (hk : tk ≤ 900) (he : ∀ k, k < L → mi_eq K old tmp W0 (G k)) (hcl : ∀ k, k < L → mr_cl G L u k) (hla : ∀ k, k < L → mr_last G L u k) (hw0 : ∀ n, n < 64 → s0.2 n = W0 n) :
    ∀ k, k ≤ L → (∀ j, j < k → ¬ u j = 0 → ¬ (G j).1 = 17 → (mr_k K old G u k s0).1 (tb_n G j) = tmp (tb_n G j)) ∧
      (∀ n, n < 64 → (∀ j, j < k → ¬ ((G j).1 = 17 ∧ (G j).2.1 = n)) → (mr_k K old G u k s0).2 n = W0 n) ∧
      (∀ n, n < 64 → (∃ j, k ≤ j ∧ j < L ∧ (G j).1 = 17 ∧ (G j).2.1 = n) ∨ (mr_k K old G u k s0).2 n = mi_ws (tv_v K old tmp) W0 G k n) := by
  intro k
  induction k with
  | zero => intro _; exact ⟨fun j hj => absurd hj (Nat.not_lt_zero _), fun n hn _ => hw0 n hn, fun n hn => Or.inr (hw0 n hn)⟩
  | succ k ih =>
    intro hkL
    obtain ⟨i1, i2, i3⟩ := ih (by omega)
    have hmk := hm k (by omega)
    have hek := he k (by omega)
    rw [mr_k]
    by_cases uk : u k = 0
    · rw [if_pos uk]
      refine ⟨fun j hj uj => ?_, fun n hn hno => i2 n hn (fun j hj => hno j (by omega)), fun n hn => ?_⟩
      · have : j ≠ k := fun z => uj (by rw [z]; exact uk)
        exact i1 j (by omega) uj
      · rw [mi_ws]
        by_cases e : (G k).1 = 17 ∧ (G k).2.1 = n
        · refine Or.inl ?_
          apply Classical.byContradiction
          intro z
          refine hla k (by omega) e.1 (fun j j1 j2 j3 => z ⟨j, j1, j2, j3.1, by rw [j3.2]; exact e.2⟩) uk
        · rw [if_neg e]
          rcases i3 n hn with ⟨j, j1, j2, j3⟩ | h
          · have : j ≠ k := fun z => e (by rw [← z]; exact j3)
            exact Or.inl ⟨j, by omega, j2, j3⟩
          · exact Or.inr h
    · rw [if_neg uk]
      have hc := hcl k (by omega) uk
      unfold mr_s
      by_cases e17 : (G k).1 = 17
      · rw [if_pos e17]
        have hs : (G k).2.1 < 64 ∧ to_ok nc tk (tb_n G k) (G k).2.2.1 := by
          rcases hmk with h | h | h
          · exact h.2
          · omega
          · have := h.1; unfold to_sum at this; omega
        have ev := mr_val (K := K) (old := old) (tmp := tmp) (u := u) (t := (mr_k K old G u k s0).1) hm hn hk (by omega) hs.2 (hc (by omega)).1 i1
        refine ⟨fun j hj uj j17 => ?_, fun n hn hno => ?_, fun n hn => ?_⟩
        · have : j ≠ k := fun z => j17 (by rw [z]; exact e17)
          exact i1 j (by omega) uj j17
        · have hne : n ≠ (G k).2.1 := fun z => hno k (by omega) ⟨e17, z.symm⟩
          show upd _ _ _ n = _
          rw [pk_un hne]
          exact i2 n hn (fun j hj => hno j (by omega))
        · rw [mi_ws]
          show _ ∨ upd _ _ _ n = _
          by_cases e : (G k).2.1 = n
          · rw [if_pos ⟨e17, e⟩, ← e, pk_us, ev]
            exact Or.inr rfl
          · rw [if_neg (fun z => e z.2), pk_un (fun z => e z.symm)]
            rcases i3 n hn with ⟨j, j1, j2, j3⟩ | h
            · have : j ≠ k := fun z => e (by rw [← z]; exact j3.2)
              exact Or.inl ⟨j, by omega, j2, j3⟩
            · exact Or.inr h
      · rw [if_neg e17]
        have ht := mi_tgt hmk e17
        have keep : ∀ n, n < 64 → (∃ j, k + 1 ≤ j ∧ j < L ∧ (G j).1 = 17 ∧ (G j).2.1 = n) ∨ (mr_k K old G u k s0).2 n = mi_ws (tv_v K old tmp) W0 G (k + 1) n := by
          intro n hn
          rw [mi_ws, if_neg (fun z => e17 z.1)]
          rcases i3 n hn with ⟨j, j1, j2, j3⟩ | h
          · have : j ≠ k := fun z => e17 (by rw [← z]; exact j3.1)
            exact Or.inl ⟨j, by omega, j2, j3⟩
          · exact Or.inr h
        have new : ∀ w : Int32, w = tmp (tb_n G k) → ∀ j, j < k + 1 → ¬ u j = 0 → ¬ (G j).1 = 17 → upd (mr_k K old G u k s0).1 ((G k).2.1 - 2000) w (tb_n G j) = tmp (tb_n G j) := by
          intro w hw j hj uj j17
          rw [ht, show 2000 + tb_n G k - 2000 = tb_n G k by omega]
          by_cases e : j = k
          · rw [e, pk_us]; exact hw
          · have : tb_n G j < tb_n G k := tb_lt (by omega) j17
            rw [pk_un (by omega)]
            exact i1 j (by omega) uj j17
        by_cases e16 : (G k).1 = 16
        · rw [if_pos e16]
          have hg : (G k).2.2.1 < 64 ∧ ∀ j, j < k → ¬ ((G j).1 = 17 ∧ (G j).2.1 = (G k).2.2.1) := by
            rcases hmk with h | h | h
            · omega
            · exact h.2.2
            · have := h.1; unfold to_sum at this; omega
          refine ⟨new _ ?_, fun n hn hno => i2 n hn (fun j hj => hno j (by omega)), keep⟩
          have := hek.1 e16
          rw [ht, show 2000 + tb_n G k - 2000 = tb_n G k by omega] at this
          rw [this]
          exact i2 _ hg.1 hg.2
        · rw [if_neg e16]
          have hsu : to_sum (G k).1 ∧ to_ok nc tk (tb_n G k) (G k).2.2.1 ∧ to_ok nc tk (tb_n G k) (G k).2.2.2 := by
            rcases hmk with h | h | h
            · omega
            · omega
            · exact ⟨h.1, h.2.2⟩
          refine ⟨new _ ?_, fun n hn hno => i2 n hn (fun j hj => hno j (by omega)), keep⟩
          have := hek.2 hsu.1
          rw [ht, show 2000 + tb_n G k - 2000 = tb_n G k by omega] at this
          rw [this, mr_val (K := K) (old := old) (tmp := tmp) (u := u) (t := (mr_k K old G u k s0).1) hm hn hk (by omega) hsu.2.1 (hc e16).1 i1, mr_val (K := K) (old := old) (tmp := tmp) (u := u) (t := (mr_k K old G u k s0).1) hm hn hk (by omega) hsu.2.2 ((hc e16).2 e17) i1]
end MR
end
section
/-! what nobody uses is left out -/
theorem nar_b0 : vp_nar .boolean 0 = 0 := rfl
theorem nar_b1 : vp_nar .boolean 1 = 1 := rfl
/-- micro j makes the operand v -/
def md_I (G : ty_G) (L : Nat) (v : Int32) (j : Nat) : Prop := j < L ∧ ¬ (G j).1 = 17 ∧ nI (G j).2.1 = v ∧ ¬ v < 2000
theorem md_of {G : ty_G} {L o j : Nat} (ho : o < 2 ^ 31) (h : mr_def G L o j) : md_I G L (nI o) j := ⟨h.1, h.2.1, congrArg nI h.2.2.1, nI_nlt (b := 2000) h.2.2.2 ho⟩
theorem md_to {G : ty_G} {L o j : Nat} (ho : o < 2 ^ 31) (hg : (G j).2.1 < 2 ^ 31) (h : md_I G L (nI o) j) : mr_def G L o j := by
  refine ⟨h.1, h.2.1, (nI_eq hg ho).mp h.2.2.1, ?_⟩
  apply Classical.byContradiction
  intro z
  exact h.2.2.2 (nI_lt (b := 2000) (by omega) (by decide))
section XG
variable {c : ty_C} {m : ty_M} {e : ty_E} {b : ty_B} {x : ty_X} {d : ty_D} {mf L nc tm tk pk : Nat} {N : List Nat} {mo mt ma mb K wo : Nat → Int32} {G : ty_G}
theorem xg_over {post : Int32 → Prop} {k : Nat} (hL : mf + L ≤ 128) (hk : k < L) (hG : ∀ j, j < L → (G j).1 < 128 ∧ (G j).2.1 < 32768) (hx : xr_R x (mf + L) nc tm tk pk N mo mt ma mb K wo) (hrep : ti_rep mf L G mo mt ma mb)
    (k0 : (∀ j, k < j → j < L → ¬ ((G j).1 = 17 ∧ (G j).2.1 = (G k).2.1)) → post 0) (k1 : ∀ j, k < j → j < L → (G j).1 = 17 → (G j).2.1 = (G k).2.1 → post 1) : wpX_isOverwritten post (mk_S c m e b x d) (nI (mf + k)) := by
  obtain ⟨h1, h2, h3, h4, h5, h6, h7, h8, h9, h10, h11, h12, h13⟩ := hx
  have loop : ∀ dd i, k < i → i + dd = L → (∀ j, k < j → j < i → ¬ ((G j).1 = 17 ∧ (G j).2.1 = (G k).2.1)) → lo_isOverwritten_4 post (nI (mf + k)) (dd + 1) (nI (mf + i)) c m e b x d := by
    intro dd
    induction dd with
    | zero =>
      intro i hi hd hno
      refine br_t ?_ (k0 (fun j j1 j2 => hno j j1 (by omega)))
      show gx_micros x ≤ _
      rw [h1]; exact nI_le (by omega) (by omega)
    | succ dd ih =>
      intro i hi hd hno
      have e1 : gx_microOp x (nI (mf + i)).toNatClampNeg = nI (G i).1 := by rw [pk_cl (mf + i), h8]; exact (hrep i (by omega)).1
      have e2 : gx_microTarget x (nI (mf + i)).toNatClampNeg = nI (G i).2.1 := by rw [pk_cl (mf + i), h9]; exact (hrep i (by omega)).2.1
      have e3 : gx_microTarget x (nI (mf + k)).toNatClampNeg = nI (G k).2.1 := by rw [pk_cl (mf + k), h9]; exact (hrep k hk).2.1
      have hi' := hG i (by omega)
      have hk' := hG k hk
      have next : ¬ ((G i).1 = 17 ∧ (G i).2.1 = (G k).2.1) → ∀ y, y = nI (mf + i) + 1 → lo_isOverwritten_4 post (nI (mf + k)) (dd + 1) y c m e b x d := by
        intro hn y ey
        rw [ey, nI_1]
        refine ih (i + 1) (by omega) (by omega) (fun j j1 j2 => ?_)
        by_cases e : j = i
        · rw [e]; exact hn
        · exact hno j j1 (by omega)
      refine br_f ?_ (And.intro (pk_in (mf + i) 128 (by omega)) (br_c (fun z => And.intro (pk_in (mf + i) 128 (by omega)) (And.intro (pk_in (mf + k) 128 (by omega)) (br_c (fun y => k1 i hi (by omega) ?_ ?_) (fun y => next ?_)))) (fun z => next ?_)))
      · show ¬ gx_micros x ≤ _
        rw [h1]; exact nI_ge (by omega) (by omega)
      · exact (nI_eq (by omega) (by decide)).mp (e1.symm.trans z)
      · exact (nI_eq (by omega) (by omega)).mp (e2.symm.trans (y.trans e3))
      · intro q
        apply y
        show gx_microTarget x _ = gx_microTarget x _
        rw [e2, e3, q.2]
      · intro q
        apply z
        show gx_microOp x _ = _
        rw [e1, q.1]; rfl
  refine nm_r (e' := nI (mf + (k + 1))) (nI_1 (mf + k)) ⟨L - (k + 1) + 1, ?_⟩
  exact loop (L - (k + 1)) (k + 1) (by omega) (by omega) (fun j j1 j2 => by omega)
theorem xg_markL {post : SX → Prop} {v : Int32} (hL : mf + L ≤ 128) (hG : ∀ j, j < L → (G j).1 < 128 ∧ (G j).2.1 < 32768) (hx : xr_R x (mf + L) nc tm tk pk N mo mt ma mb K wo) (hrep : ti_rep mf L G mo mt ma mb) :
    ∀ dd k (us : Nat → Int32), k + dd = L →
    (∀ us', (∀ j, j < L → ¬ us (mf + j) = 0 → ¬ us' (mf + j) = 0) → (∀ j, k ≤ j → md_I G L v j → ¬ us' (mf + j) = 0) → (∀ j, j < L → ¬ us' (mf + j) = 0 → ¬ us (mf + j) = 0 ∨ md_I G L v j) → post (mk_S c m e ((gb_blocks b, gb_finals b, gb_blockAt b, gb_leads b, gb_blockCost b, gb_blockNeed b, gb_blockPeak b, gb_microFrom b, gb_finalFrom b, gb_blockNext b, gb_blockTest b, gb_blockTarget b, us', gb_finalOperand b)) x d)) →
    lo_markUsed_10 post v (dd + 1) (nI (mf + k)) c m e ((gb_blocks b, gb_finals b, gb_blockAt b, gb_leads b, gb_blockCost b, gb_blockNeed b, gb_blockPeak b, gb_microFrom b, gb_finalFrom b, gb_blockNext b, gb_blockTest b, gb_blockTarget b, us, gb_finalOperand b)) x d := by
  obtain ⟨h1, h2, h3, h4, h5, h6, h7, h8, h9, h10, h11, h12, h13⟩ := hx
  intro dd
  induction dd with
  | zero =>
    intro k us hk kk
    refine br_t ?_ (kk us (fun j _ h => h) (fun j hj hd => absurd hd.1 (by omega)) (fun j _ h => Or.inl h))
    show gx_micros x ≤ _
    rw [h1]; exact nI_le (by omega) (by omega)
  | succ dd ih =>
    intro k us hk kk
    have e1 : gx_microOp x (nI (mf + k)).toNatClampNeg = nI (G k).1 := by rw [pk_cl (mf + k), h8]; exact (hrep k (by omega)).1
    have e2 : gx_microTarget x (nI (mf + k)).toNatClampNeg = nI (G k).2.1 := by rw [pk_cl (mf + k), h9]; exact (hrep k (by omega)).2.1
    have hGk := hG k (by omega)
    have hi : mf + k < 128 := by omega
    refine br_f ?_ (br_c (fun z => ?_) (fun hv => ?_))
    · show ¬ gx_micros x ≤ _
      rw [h1]; exact nI_ge (by omega) (by omega)
    · exact kk us (fun j _ h => h) (fun j hj hd => absurd z hd.2.2.2) (fun j _ h => Or.inl h)
    · -- the rest of the loop
      have kc : ∀ w : Int32, (md_I G L v k → ¬ w = 0) → (¬ us (mf + k) = 0 → ¬ w = 0) → (¬ w = 0 → ¬ us (mf + k) = 0 ∨ md_I G L v k) → ∀ y, y = nI (mf + k) + 1 → lo_markUsed_10 post v (dd + 1) y c m e ((gb_blocks b, gb_finals b, gb_blockAt b, gb_leads b, gb_blockCost b, gb_blockNeed b, gb_blockPeak b, gb_microFrom b, gb_finalFrom b, gb_blockNext b, gb_blockTest b, gb_blockTarget b, upd us (mf + k) w, gb_finalOperand b)) x d := by
        intro w w1 w2 w3 y ey
        rw [ey, nI_1]
        refine ih (k + 1) (upd us (mf + k) w) (by omega) (fun us' p1 p2 p3 => kk us' ?_ ?_ ?_)
        · intro j hj hu
          apply p1 j hj
          by_cases e : j = k
          · rw [e, pk_us]; rw [e] at hu; exact w2 hu
          · rw [pk_un (by omega)]; exact hu
        · intro j hj hd
          by_cases e : j = k
          · apply p1 j hd.1
            rw [e, pk_us]; rw [e] at hd; exact w1 hd
          · exact p2 j (by omega) hd
        · intro j hj hu
          rcases p3 j hj hu with q | q
          · by_cases e : j = k
            · rw [e, pk_us] at q; rw [e]; exact w3 q
            · rw [pk_un (by omega)] at q; exact Or.inl q
          · exact Or.inr q
      have eu : us (nI (mf + k)).toNatClampNeg = us (mf + k) := by rw [pk_cl (mf + k)]
      have u0 : upd us (nI (mf + k)).toNatClampNeg (vp_nar .boolean 0) = upd us (mf + k) 0 := by rw [pk_cl (mf + k)]; rfl
      have u1 : upd us (nI (mf + k)).toNatClampNeg (vp_nar .boolean 1) = upd us (mf + k) 1 := by rw [pk_cl (mf + k)]; rfl
      have ne1 : ¬ (1 : Int32) = 0 := by decide
      refine And.intro (pk_in (mf + k) 128 hi) (br_c (fun z17 => ?_) (fun z17 => And.intro (pk_in (mf + k) 128 hi) (br_c (fun zt => ?_) (fun zt => ?_))))
      · have hnd : ¬ md_I G L v k := by
          intro q
          apply q.2.1
          exact (nI_eq (by omega) (by decide)).mp (e1.symm.trans z17)
        refine And.intro (pk_in (mf + k) 128 hi) (br_c (fun zu => br_t rfl (And.intro (pk_in (mf + k) 128 hi) (nm_r (e' := upd us (mf + k) 0) u0 (kc 0 (fun q => absurd q hnd) (fun q => absurd (eu.symm.trans zu) q) (fun q => absurd rfl q))))) (fun zu => And.intro (pk_in (mf + k) 128 hi) (nm_r (e' := upd us (mf + k) 1) u1 (kc 1 (fun _ => ne1) (fun _ => ne1) (fun _ => Or.inl (fun q => zu (eu.trans q)))))))
      · have hd : md_I G L v k := ⟨by omega, fun q => z17 (e1.trans (congrArg nI q)), e2.symm.trans zt, hv⟩
        refine And.intro (pk_in (mf + k) 128 hi) (br_c (fun zu => br_f ne1 (And.intro (pk_in (mf + k) 128 hi) (nm_r (e' := upd us (mf + k) 1) u1 (kc 1 (fun _ => ne1) (fun _ => ne1) (fun _ => Or.inr hd))))) (fun zu => And.intro (pk_in (mf + k) 128 hi) (nm_r (e' := upd us (mf + k) 1) u1 (kc 1 (fun _ => ne1) (fun _ => ne1) (fun _ => Or.inr hd)))))
      · have hnd : ¬ md_I G L v k := fun q => zt (e2.trans q.2.2.1)
        refine And.intro (pk_in (mf + k) 128 hi) (br_c (fun zu => br_t rfl (And.intro (pk_in (mf + k) 128 hi) (nm_r (e' := upd us (mf + k) 0) u0 (kc 0 (fun q => absurd q hnd) (fun q => absurd (eu.symm.trans zu) q) (fun q => absurd rfl q))))) (fun zu => And.intro (pk_in (mf + k) 128 hi) (nm_r (e' := upd us (mf + k) 1) u1 (kc 1 (fun _ => ne1) (fun _ => ne1) (fun _ => Or.inl (fun q => zu (eu.trans q)))))))
theorem xg_mark {post : SX → Prop} {v : Int32} {bi : Nat} (hbi : bi < 41) (hb : gb_blocks b = nI bi) (hfm : gb_microFrom b bi = nI mf) (hL : mf + L ≤ 128) (hG : ∀ j, j < L → (G j).1 < 128 ∧ (G j).2.1 < 32768) (hx : xr_R x (mf + L) nc tm tk pk N mo mt ma mb K wo) (hrep : ti_rep mf L G mo mt ma mb)
    (kk : ∀ us', (∀ j, j < L → ¬ gb_microUsed b (mf + j) = 0 → ¬ us' (mf + j) = 0) → (∀ j, md_I G L v j → ¬ us' (mf + j) = 0) → (∀ j, j < L → ¬ us' (mf + j) = 0 → ¬ gb_microUsed b (mf + j) = 0 ∨ md_I G L v j) → post (mk_S c m e ((gb_blocks b, gb_finals b, gb_blockAt b, gb_leads b, gb_blockCost b, gb_blockNeed b, gb_blockPeak b, gb_microFrom b, gb_finalFrom b, gb_blockNext b, gb_blockTest b, gb_blockTarget b, us', gb_finalOperand b)) x d)) : wpX_markUsed post (mk_S c m e b x d) v := by
  refine And.intro (pk_in bi 42 (by omega) hb) (nm_r (e' := nI mf) ?_ ⟨L + 1, ?_⟩)
  · show gb_microFrom b (gb_blocks b).toNatClampNeg = _
    rw [pk_cl bi hb]; exact hfm
  · exact xg_markL hL hG hx hrep L 0 (gb_microUsed b) (by omega) (fun us' p1 p2 p3 => kk us' p1 (fun j hj => p2 j (Nat.zero_le _) hj) p3)
end XG
end
section
section XH
variable {c : ty_C} {m : ty_M} {e : ty_E} {b : ty_B} {x : ty_X} {d : ty_D} {mf L nc tm tk pk : Nat} {N : List Nat} {mo mt ma mb K wo : Nat → Int32} {G : ty_G} {post : SX → Prop}
theorem mr_cl_mono {u u' : Nat → Int32} {k : Nat} (hu : ∀ j, j < L → ¬ u j = 0 → ¬ u' j = 0) (hk : ¬ u' k = 0 → ¬ u k = 0) (h : mr_cl G L u k) : mr_cl G L u' k := by
  intro h1 h2
  have h3 := h (hk h1) h2
  exact ⟨fun j hj => hu j hj.1 (h3.1 j hj), fun h17 j hj => hu j hj.1 (h3.2 h17 j hj)⟩
theorem xh_168 (hL : mf + L ≤ 128) (hG : ∀ j, j < L → (G j).1 < 128 ∧ (G j).2.1 < 32768 ∧ (G j).2.2.1 < 32768 ∧ (G j).2.2.2 < 32768) (hx : gx_micros x = nI (mf + L))
    (kk : ∀ (mo' mt' ma' mb' : Nat → Int32) (g : ty_G) (Lk : Nat), Lk ≤ L → ti_rep mf Lk g mo' mt' ma' mb' → (∀ q, q < mf → mo' q = mo q ∧ mt' q = mt q ∧ ma' q = ma q ∧ mb' q = mb q) → (∀ k, k < Lk → ∃ k', k' < L ∧ g k = G k') →
      (∀ K old s, mr_run K old g Lk s = mr_k K old G (fun k => gb_microUsed b (mf + k)) L s) → post (mk_S c m e b ((nI (mf + Lk), gx_constants x, gx_newSize x, gx_taken x, gx_peak x, gx_temps x, mo', mt', ma', mb', gx_constant x, gx_newStack x, gx_wordOperand x)) d)) :
    ∀ dd i j (mo' mt' ma' mb' : Nat → Int32) (g : ty_G), i + dd = L → j ≤ i → ti_rep mf j g mo' mt' ma' mb' → (∀ k, i ≤ k → k < L → mo' (mf + k) = nI (G k).1 ∧ mt' (mf + k) = nI (G k).2.1 ∧ ma' (mf + k) = nI (G k).2.2.1 ∧ mb' (mf + k) = nI (G k).2.2.2) →
      (∀ q, q < mf → mo' q = mo q ∧ mt' q = mt q ∧ ma' q = ma q ∧ mb' q = mb q) → (∀ k, k < j → ∃ k', k' < L ∧ g k = G k') → (∀ K old s, mr_run K old g j s = mr_k K old G (fun k => gb_microUsed b (mf + k)) i s) →
      lo_dropUnused_168 post (dd + 1) (nI (mf + j)) (nI (mf + i)) c m e b ((gx_micros x, gx_constants x, gx_newSize x, gx_taken x, gx_peak x, gx_temps x, mo', mt', ma', mb', gx_constant x, gx_newStack x, gx_wordOperand x)) d := by
  intro dd
  induction dd with
  | zero =>
    intro i j mo' mt' ma' mb' g hi hj hrep hrest hfr hfrom hrun
    have e0 : i = L := by omega
    subst e0
    refine br_t ?_ (kk mo' mt' ma' mb' g j hj hrep hfr hfrom hrun)
    show gx_micros x ≤ _
    rw [hx]; exact nI_le (by omega) (by omega)
  | succ dd ih =>
    intro i j mo' mt' ma' mb' g hi hj hrep hrest hfr hfrom hrun
    obtain ⟨r1, r2, r3, r4⟩ := hrest i (Nat.le_refl _) (by omega)
    obtain ⟨g1, g2, g3, g4⟩ := hG i (by omega)
    have vi : vp_in (nI (mf + i)) 128 := pk_in (mf + i) 128 (by omega)
    have vj : vp_in (nI (mf + j)) 128 := pk_in (mf + j) 128 (by omega)
    have ci : (nI (mf + i)).toNatClampNeg = mf + i := pk_cl (mf + i)
    have cj : (nI (mf + j)).toNatClampNeg = mf + j := pk_cl (mf + j)
    refine br_f ?_ (And.intro vi (br_c (fun z => nm_r (e' := nI (mf + (i + 1))) (nI_1 (mf + i)) ?_) (fun z => And.intro vi (And.intro vj (nm_r (e' := upd mo' (mf + j) (nI (G i).1)) ?_ (And.intro vi (And.intro vj (nm_r (e' := upd mt' (mf + j) (nI (G i).2.1)) ?_ (And.intro vi (And.intro vj (nm_r (e' := upd ma' (mf + j) (nI (G i).2.2.1)) ?_ (And.intro vi (And.intro vj (nm_r (e' := upd mb' (mf + j) (nI (G i).2.2.2)) ?_ (nm_r (e' := nI (mf + (j + 1))) (nI_1 (mf + j)) (nm_r (e' := nI (mf + (i + 1))) (nI_1 (mf + i)) ?_))))))))))))))))
    · show ¬ gx_micros x ≤ _
      rw [hx]; exact nI_ge (by omega) (by omega)
    · refine ih (i + 1) j mo' mt' ma' mb' g (by omega) (by omega) hrep (fun k k1 k2 => hrest k (by omega) k2) hfr hfrom (fun K old s => ?_)
      have z' : gb_microUsed b (mf + i) = 0 := by rw [← ci]; exact z
      rw [hrun K old s, mr_k, if_pos z']
    · show upd mo' (nI (mf + j)).toNatClampNeg (vp_nar .byte (mo' (nI (mf + i)).toNatClampNeg)) = _
      rw [ci, cj, r1, wi_bs g1]
    · show upd mt' (nI (mf + j)).toNatClampNeg (vp_nar .short (mt' (nI (mf + i)).toNatClampNeg)) = _
      rw [ci, cj, r2, wi_ss g2]
    · show upd ma' (nI (mf + j)).toNatClampNeg (vp_nar .short (ma' (nI (mf + i)).toNatClampNeg)) = _
      rw [ci, cj, r3, wi_ss g3]
    · show upd mb' (nI (mf + j)).toNatClampNeg (vp_nar .short (mb' (nI (mf + i)).toNatClampNeg)) = _
      rw [ci, cj, r4, wi_ss g4]
    · refine ih (i + 1) (j + 1) _ _ _ _ (up_G g j (G i)) (by omega) (by omega) (rep_up g4 hrep) (fun k k1 k2 => ?_) (fun q hq => ?_) (fun k hk => ?_) (fun K old s => ?_)
      · rw [pk_un (by omega), pk_un (by omega), pk_un (by omega), pk_un (by omega)]; exact hrest k (by omega) k2
      · rw [pk_un (by omega), pk_un (by omega), pk_un (by omega), pk_un (by omega)]; exact hfr q hq
      · by_cases e : k = j
        · subst e; rw [up_s]; exact ⟨i, by omega, rfl⟩
        · rw [up_n e]; exact hfrom k (by omega)
      · have z' : ¬ gb_microUsed b (mf + i) = 0 := by rw [← ci]; exact z
        rw [mr_k, if_neg z', mr_run, up_s, mr_cg (G' := up_G g j (G i)) (G := g) (fun k hk => up_n (by omega)), hrun K old s]
theorem xh_101 {bi : Nat} (hbi : bi < 41) (hb : gb_blocks b = nI bi) (hfm : gb_microFrom b bi = nI mf) (hL : mf + L ≤ 128) (hG : ∀ j, j < L → (G j).1 < 128 ∧ (G j).2.1 < 32768 ∧ (G j).2.2.1 < 32768 ∧ (G j).2.2.2 < 32768) (hm : ∀ k, k < L → mi_ok G nc tk k) (hn : nc ≤ 1000) (hk9 : tk ≤ 900) (hx : xr_R x (mf + L) nc tm tk pk N mo mt ma mb K wo) (hrep : ti_rep mf L G mo mt ma mb)
    (us0 : Nat → Int32)
    (kk : ∀ us, (∀ j, j < L → ¬ us0 (mf + j) = 0 → ¬ us (mf + j) = 0) → (∀ k, k < L → mr_cl G L (fun j => us (mf + j)) k) → ∃ n, lo_dropUnused_168 post n (nI mf) (nI mf) c m e ((gb_blocks b, gb_finals b, gb_blockAt b, gb_leads b, gb_blockCost b, gb_blockNeed b, gb_blockPeak b, gb_microFrom b, gb_finalFrom b, gb_blockNext b, gb_blockTest b, gb_blockTarget b, us, gb_finalOperand b)) x d) :
    ∀ k (us : Nat → Int32), k ≤ L → (∀ j, j < L → ¬ us0 (mf + j) = 0 → ¬ us (mf + j) = 0) → (∀ j, k ≤ j → j < L → mr_cl G L (fun j => us (mf + j)) j) → lo_dropUnused_101 post (nI mf) (k + 1) (nI (mf + k) - 1) c m e ((gb_blocks b, gb_finals b, gb_blockAt b, gb_leads b, gb_blockCost b, gb_blockNeed b, gb_blockPeak b, gb_microFrom b, gb_finalFrom b, gb_blockNext b, gb_blockTest b, gb_blockTarget b, us, gb_finalOperand b)) x d := by
  have hGs : ∀ j, j < L → (G j).1 < 128 ∧ (G j).2.1 < 32768 := fun j hj => ⟨(hG j hj).1, (hG j hj).2.1⟩
  have hx0 := hx
  obtain ⟨h1, h2, h3, h4, h5, h6, h7, h8, h9, h10, h11, h12, h13⟩ := hx0
  intro k
  induction k with
  | zero =>
    intro us hk hmono hcl
    refine br_t ?_ (kk us hmono (fun j hj => hcl j (Nat.zero_le _) hj))
    apply Int32.lt_iff_toInt_lt.mpr
    have e1 : (nI (mf + 0) - nI 1).toInt = ((mf + 0 : Nat) : Int) - (1 : Nat) := pk_sub_toInt (by omega) (by omega)
    have e2 : (nI mf).toInt = (mf : Nat) := nI_toInt (by omega)
    show (nI (mf + 0) - nI 1).toInt < _
    rw [e1, e2]; omega
  | succ k ih =>
    intro us hk hmono hcl
    have ex : nI (mf + (k + 1)) - 1 = nI (mf + k) := nI_pred (mf + k)
    rw [ex]
    have vi : vp_in (nI (mf + k)) 128 := pk_in (mf + k) 128 (by omega)
    have ci : (nI (mf + k)).toNatClampNeg = mf + k := pk_cl (mf + k)
    obtain ⟨r1, r2, r3, r4, r5⟩ := hrep k (by omega)
    obtain ⟨g1, g2, g3, g4⟩ := hG k (by omega)
    have em1 : nI (mf + k) + (-1) = nI (mf + k) - 1 := (Int32.sub_eq_add_neg _ _).symm
    have eo : gx_microOp x (nI (mf + k)).toNatClampNeg = nI (G k).1 := by rw [ci, h8]; exact r1
    refine br_f (nI_nlt (by omega) (by omega)) (And.intro vi (br_c (fun z => nm_r (e' := nI (mf + k) - 1) em1 ?_) (fun z => And.intro vi (br_c (fun z16 => nm_r (e' := nI (mf + k) - 1) em1 ?_) (fun z16 => And.intro vi ?_)))))
    · refine ih us (by omega) hmono (fun j j1 j2 => ?_)
      by_cases e : j = k
      · subst e
        intro hu
        exact absurd (show us (mf + j) = 0 by rw [← ci]; exact z) hu
      · exact hcl j (by omega) j2
    · refine ih us (by omega) hmono (fun j j1 j2 => ?_)
      by_cases e : j = k
      · subst e
        intro _ h16
        exact absurd ((nI_eq (by omega) (by decide)).mp (eo.symm.trans z16)) h16
      · exact hcl j (by omega) j2
    · have z' : ¬ us (mf + k) = 0 := by rw [← ci]; exact z
      have hG16 : ¬ (G k).1 = 16 := fun q => z16 (eo.trans (congrArg nI q))
      have hopA : to_ok nc tk (tb_n G k) (G k).2.2.1 := by
        rcases hm k (by omega) with q | q | q
        · exact q.2.2
        · exact absurd q.1 hG16
        · exact q.2.2.1
      have eA : gx_microA x (nI (mf + k)).toNatClampNeg = nI (G k).2.2.1 := by rw [ci, h10]; exact r3
      have eB : gx_microB x (nI (mf + k)).toNatClampNeg = nI (G k).2.2.2 := by rw [ci, h11]; exact r4
      show wpX_markUsed _ (mk_S c m e ((gb_blocks b, gb_finals b, gb_blockAt b, gb_leads b, gb_blockCost b, gb_blockNeed b, gb_blockPeak b, gb_microFrom b, gb_finalFrom b, gb_blockNext b, gb_blockTest b, gb_blockTarget b, us, gb_finalOperand b)) x d) (gx_microA x (nI (mf + k)).toNatClampNeg)
      rw [eA]
      refine xg_mark (b := (gb_blocks b, gb_finals b, gb_blockAt b, gb_leads b, gb_blockCost b, gb_blockNeed b, gb_blockPeak b, gb_microFrom b, gb_finalFrom b, gb_blockNext b, gb_blockTest b, gb_blockTarget b, us, gb_finalOperand b)) hbi hb hfm hL hGs hx hrep (fun us1 p1 p2 p3 => ?_)
      have p3' : ∀ j, k ≤ j → j < L → ¬ us1 (mf + j) = 0 → ¬ us (mf + j) = 0 := by
        intro j j1 j2 hu
        rcases p3 j j2 hu with q | q
        · exact q
        · have := mr_before hm hopA hn hk9 (md_to (by omega) (by have := hGs j j2; omega) q)
          omega
      have cl1 : ∀ j, k + 1 ≤ j → j < L → mr_cl G L (fun j => us1 (mf + j)) j := fun j j1 j2 => mr_cl_mono (fun j hj => p1 j hj) (p3' j (by omega) j2) (hcl j (by omega) j2)
      refine And.intro vi (br_c (fun z17 => nm_r (e' := nI (mf + k) - 1) em1 ?_) (fun z17 => And.intro vi ?_))
      · refine ih us1 (by omega) (fun j hj hu => p1 j hj (hmono j hj hu)) (fun j j1 j2 => ?_)
        by_cases e : j = k
        · subst e
          intro _ _
          refine ⟨fun j' hj' => p2 j' (md_of (by omega) hj'), fun h17 => ?_⟩
          exact absurd ((nI_eq (by omega) (by decide)).mp (eo.symm.trans z17)) h17
        · exact cl1 j (by omega) j2
      · have hG17 : ¬ (G k).1 = 17 := fun q => z17 (eo.trans (congrArg nI q))
        have hopB : to_ok nc tk (tb_n G k) (G k).2.2.2 := by
          rcases hm k (by omega) with q | q | q
          · exact absurd q.1 hG17
          · exact absurd q.1 hG16
          · exact q.2.2.2
        show wpX_markUsed _ (mk_S c m e ((gb_blocks b, gb_finals b, gb_blockAt b, gb_leads b, gb_blockCost b, gb_blockNeed b, gb_blockPeak b, gb_microFrom b, gb_finalFrom b, gb_blockNext b, gb_blockTest b, gb_blockTarget b, us1, gb_finalOperand b)) x d) (gx_microB x (nI (mf + k)).toNatClampNeg)
        rw [eB]
        refine xg_mark (b := (gb_blocks b, gb_finals b, gb_blockAt b, gb_leads b, gb_blockCost b, gb_blockNeed b, gb_blockPeak b, gb_microFrom b, gb_finalFrom b, gb_blockNext b, gb_blockTest b, gb_blockTarget b, us1, gb_finalOperand b)) hbi hb hfm hL hGs hx hrep (fun us2 q1 q2 q3 => nm_r (e' := nI (mf + k) - 1) em1 ?_)
        have q3' : ∀ j, k ≤ j → j < L → ¬ us2 (mf + j) = 0 → ¬ us1 (mf + j) = 0 := by
          intro j j1 j2 hu
          rcases q3 j j2 hu with q | q
          · exact q
          · have := mr_before hm hopB hn hk9 (md_to (by omega) (by have := hGs j j2; omega) q)
            omega
        refine ih us2 (by omega) (fun j hj hu => q1 j hj (p1 j hj (hmono j hj hu))) (fun j j1 j2 => ?_)
        by_cases e : j = k
        · subst e
          intro _ _
          exact ⟨fun j' hj' => q1 j' hj'.1 (p2 j' (md_of (by omega) hj')), fun _ j' hj' => q2 j' (md_of (by omega) hj')⟩
        · exact mr_cl_mono (fun j hj => q1 j hj) (q3' j (by omega) j2) (cl1 j (by omega) j2)
theorem xh_70 {bi ff fe : Nat} (hbi : bi < 41) (hb : gb_blocks b = nI bi) (hfm : gb_microFrom b bi = nI mf) (hfe : gb_finals b = nI fe) (hfe5 : fe ≤ 512) (hL : mf + L ≤ 128) (hG : ∀ j, j < L → (G j).1 < 128 ∧ (G j).2.1 < 32768) (hx : xr_R x (mf + L) nc tm tk pk N mo mt ma mb K wo) (hrep : ti_rep mf L G mo mt ma mb)
    (us0 : Nat → Int32)
    (kk : ∀ us, (∀ j, j < L → ¬ us0 (mf + j) = 0 → ¬ us (mf + j) = 0) → (∀ i, ff ≤ i → i < fe → ∀ j, md_I G L (gb_finalOperand b i) j → ¬ us (mf + j) = 0) → ∃ n, lo_dropUnused_101 post (nI mf) n (nI (mf + L) - 1) c m e ((gb_blocks b, gb_finals b, gb_blockAt b, gb_leads b, gb_blockCost b, gb_blockNeed b, gb_blockPeak b, gb_microFrom b, gb_finalFrom b, gb_blockNext b, gb_blockTest b, gb_blockTarget b, us, gb_finalOperand b)) x d) :
    ∀ dd i (us : Nat → Int32), ff ≤ i → i + dd = fe → (∀ j, j < L → ¬ us0 (mf + j) = 0 → ¬ us (mf + j) = 0) → (∀ i', ff ≤ i' → i' < i → ∀ j, md_I G L (gb_finalOperand b i') j → ¬ us (mf + j) = 0) → lo_dropUnused_70 post (nI mf) (dd + 1) (nI i) c m e ((gb_blocks b, gb_finals b, gb_blockAt b, gb_leads b, gb_blockCost b, gb_blockNeed b, gb_blockPeak b, gb_microFrom b, gb_finalFrom b, gb_blockNext b, gb_blockTest b, gb_blockTarget b, us, gb_finalOperand b)) x d := by
  intro dd
  induction dd with
  | zero =>
    intro i us hf hi hmono hfin
    have e0 : i = fe := by omega
    subst e0
    refine br_t ?_ (nm_r (e' := nI (mf + L) - 1) ?_ (kk us hmono hfin))
    · show gb_finals b ≤ _
      rw [hfe]; exact nI_le (by omega) (by omega)
    · show gx_micros x - 1 = _
      rw [hx.1]
  | succ dd ih =>
    intro i us hf hi hmono hfin
    refine br_f ?_ (And.intro (pk_in i 512 (by omega)) ?_)
    · show ¬ gb_finals b ≤ _
      rw [hfe]; exact nI_ge (by omega) (by omega)
    · have ci : gb_finalOperand b (nI i).toNatClampNeg = gb_finalOperand b i := by rw [pk_cl i]
      show wpX_markUsed _ (mk_S c m e ((gb_blocks b, gb_finals b, gb_blockAt b, gb_leads b, gb_blockCost b, gb_blockNeed b, gb_blockPeak b, gb_microFrom b, gb_finalFrom b, gb_blockNext b, gb_blockTest b, gb_blockTarget b, us, gb_finalOperand b)) x d) (gb_finalOperand b (nI i).toNatClampNeg)
      rw [ci]
      refine xg_mark (b := (gb_blocks b, gb_finals b, gb_blockAt b, gb_leads b, gb_blockCost b, gb_blockNeed b, gb_blockPeak b, gb_microFrom b, gb_finalFrom b, gb_blockNext b, gb_blockTest b, gb_blockTarget b, us, gb_finalOperand b)) hbi hb hfm hL hG hx hrep (fun us1 p1 p2 p3 => nm_r (e' := nI (i + 1)) (nI_1 i) ?_)
      refine ih (i + 1) us1 (by omega) (by omega) (fun j hj hu => p1 j hj (hmono j hj hu)) (fun i' i1 i2 j hj => ?_)
      by_cases e : i' = i
      · subst e; exact p2 j hj
      · exact p1 j hj.1 (hfin i' i1 (by omega) j hj)
theorem xh_9 {bi : Nat} (hbi : bi < 41) (hL : mf + L ≤ 128) (hG : ∀ j, j < L → (G j).1 < 128 ∧ (G j).2.1 < 32768) (hx : xr_R x (mf + L) nc tm tk pk N mo mt ma mb K wo) (hrep : ti_rep mf L G mo mt ma mb)
    (kk : ∀ us, (∀ k, k < L → mr_last G L (fun j => us (mf + j)) k) → lo_dropUnused_9 post (nI bi) (nI mf) 1 (nI (mf + L)) c m e ((gb_blocks b, gb_finals b, gb_blockAt b, gb_leads b, gb_blockCost b, gb_blockNeed b, gb_blockPeak b, gb_microFrom b, gb_finalFrom b, gb_blockNext b, gb_blockTest b, gb_blockTarget b, us, gb_finalOperand b)) x d) :
    ∀ dd i (us : Nat → Int32), i + dd = L → (∀ k, k < i → mr_last G L (fun j => us (mf + j)) k) → lo_dropUnused_9 post (nI bi) (nI mf) (dd + 1) (nI (mf + i)) c m e ((gb_blocks b, gb_finals b, gb_blockAt b, gb_leads b, gb_blockCost b, gb_blockNeed b, gb_blockPeak b, gb_microFrom b, gb_finalFrom b, gb_blockNext b, gb_blockTest b, gb_blockTarget b, us, gb_finalOperand b)) x d := by
  have hx0 := hx
  obtain ⟨h1, h2, h3, h4, h5, h6, h7, h8, h9, h10, h11, h12, h13⟩ := hx0
  intro dd
  induction dd with
  | zero =>
    intro i us hi hla
    have e0 : i = L := by omega
    subst e0
    exact kk us hla
  | succ dd ih =>
    intro i us hi hla
    have vi : vp_in (nI (mf + i)) 128 := pk_in (mf + i) 128 (by omega)
    have ci : (nI (mf + i)).toNatClampNeg = mf + i := pk_cl (mf + i)
    have eo : gx_microOp x (nI (mf + i)).toNatClampNeg = nI (G i).1 := by rw [ci, h8]; exact (hrep i (by omega)).1
    have hGi := hG i (by omega)
    have u0 : upd us (nI (mf + i)).toNatClampNeg (vp_nar .boolean 0) = upd us (mf + i) 0 := by rw [ci]; rfl
    have u1 : upd us (nI (mf + i)).toNatClampNeg (vp_nar .boolean 1) = upd us (mf + i) 1 := by rw [ci]; rfl
    have kc : ∀ w : Int32, ((G i).1 = 17 → (∀ j, i < j → j < L → ¬ ((G j).1 = 17 ∧ (G j).2.1 = (G i).2.1)) → ¬ w = 0) → ∀ y, y = nI (mf + i) + 1 → lo_dropUnused_9 post (nI bi) (nI mf) (dd + 1) y c m e ((gb_blocks b, gb_finals b, gb_blockAt b, gb_leads b, gb_blockCost b, gb_blockNeed b, gb_blockPeak b, gb_microFrom b, gb_finalFrom b, gb_blockNext b, gb_blockTest b, gb_blockTarget b, upd us (mf + i) w, gb_finalOperand b)) x d := by
      intro w hw y ey
      rw [ey, nI_1]
      refine ih (i + 1) _ (by omega) (fun k hk => ?_)
      intro z1 z2
      by_cases e : k = i
      · subst e
        show ¬ upd us (mf + k) w (mf + k) = 0
        rw [pk_us]; exact hw z1 z2
      · show ¬ upd us (mf + i) w (mf + k) = 0
        rw [pk_un (by omega)]
        exact hla k (by omega) z1 z2
    refine br_f ?_ (And.intro vi (br_c (fun z17 => ?_) (fun z17 => And.intro vi (nm_r (e' := upd us (mf + i) 0) u0 (kc 0 ?_)))))
    · show ¬ gx_micros x ≤ _
      rw [h1]; exact nI_ge (by omega) (by omega)
    · refine xg_over (c := c) (m := m) (e := e) (b := (gb_blocks b, gb_finals b, gb_blockAt b, gb_leads b, gb_blockCost b, gb_blockNeed b, gb_blockPeak b, gb_microFrom b, gb_finalFrom b, gb_blockNext b, gb_blockTest b, gb_blockTarget b, us, gb_finalOperand b)) (x := x) (d := d) hL (by omega) hG hx hrep (fun hno => ?_) ?_
      · exact br_t rfl (And.intro vi (nm_r (e' := upd us (mf + i) 1) u1 (kc 1 (fun _ _ => by decide))))
      · intro j j1 j2 j3 j4
        exact br_f (by decide) (And.intro vi (nm_r (e' := upd us (mf + i) 0) u0 (kc 0 (fun _ hno => absurd ⟨j3, j4⟩ (hno j j1 j2)))))
    · intro q
      exact absurd (eo.trans (congrArg nI q)) z17
end XH
section XH2
variable {c : ty_C} {m : ty_M} {e : ty_E} {b : ty_B} {x : ty_X} {d : ty_D} {mf L nc tm tk pk : Nat} {N : List Nat} {mo mt ma mb K wo : Nat → Int32} {G : ty_G} {post : SX → Prop}
theorem xh_main {bi ff fe : Nat} (hbi : bi < 41) (hb : gb_blocks b = nI bi) (hfm : gb_microFrom b bi = nI mf) (hff : gb_finalFrom b bi = nI ff) (hfe : gb_finals b = nI fe) (hfl : ff ≤ fe) (hfe5 : fe ≤ 512) (hL : mf + L ≤ 128) (hG : ∀ j, j < L → (G j).1 < 128 ∧ (G j).2.1 < 32768 ∧ (G j).2.2.1 < 32768 ∧ (G j).2.2.2 < 32768) (hm : ∀ k, k < L → mi_ok G nc tk k) (hn : nc ≤ 1000) (hk9 : tk ≤ 900) (hx : xr_R x (mf + L) nc tm tk pk N mo mt ma mb K wo) (hrep : ti_rep mf L G mo mt ma mb)
    (kk : ∀ (us mo' mt' ma' mb' : Nat → Int32) (g : ty_G) (Lk : Nat) (u : Nat → Int32), Lk ≤ L → ti_rep mf Lk g mo' mt' ma' mb' → (∀ q, q < mf → mo' q = mo q ∧ mt' q = mt q ∧ ma' q = ma q ∧ mb' q = mb q) → (∀ k, k < Lk → ∃ k', k' < L ∧ g k = G k') →
      (∀ k, k < L → mr_cl G L u k) → (∀ k, k < L → mr_last G L u k) → (∀ j, md_I G L (gb_blockTest b bi) j → ¬ u j = 0) → (∀ i, ff ≤ i → i < fe → ∀ j, md_I G L (gb_finalOperand b i) j → ¬ u j = 0) → (∀ K old s, mr_run K old g Lk s = mr_k K old G u L s) →
      post (mk_S c m e ((gb_blocks b, gb_finals b, gb_blockAt b, gb_leads b, gb_blockCost b, gb_blockNeed b, gb_blockPeak b, gb_microFrom b, gb_finalFrom b, gb_blockNext b, gb_blockTest b, gb_blockTarget b, us, gb_finalOperand b)) ((nI (mf + Lk), gx_constants x, gx_newSize x, gx_taken x, gx_peak x, gx_temps x, mo', mt', ma', mb', gx_constant x, gx_newStack x, gx_wordOperand x)) d)) : wpX_dropUnused post (mk_S c m e b x d) (nI bi) := by
  have hGs : ∀ j, j < L → (G j).1 < 128 ∧ (G j).2.1 < 32768 := fun j hj => ⟨(hG j hj).1, (hG j hj).2.1⟩
  have hx0 := hx
  obtain ⟨h1, h2, h3, h4, h5, h6, h7, h8, h9, h10, h11, h12, h13⟩ := hx0
  refine And.intro (pk_in bi 42 (by omega)) (nm_r (e' := nI mf) ?_ ⟨L + 1, ?_⟩)
  · show gb_microFrom b (nI bi).toNatClampNeg = _
    rw [pk_cl bi]; exact hfm
  refine xh_9 (b := b) hbi hL hGs hx hrep (fun us0 hla => ?_) L 0 (gb_microUsed b) (by omega) (fun k hk => absurd hk (Nat.not_lt_zero _))
  refine br_t ?_ (And.intro (pk_in bi 41 hbi) ?_)
  · show gx_micros x ≤ _
    rw [h1]; exact nI_le (by omega) (by omega)
  have cb : gb_blockTest b (nI bi).toNatClampNeg = gb_blockTest b bi := by rw [pk_cl bi]
  show wpX_markUsed _ (mk_S c m e ((gb_blocks b, gb_finals b, gb_blockAt b, gb_leads b, gb_blockCost b, gb_blockNeed b, gb_blockPeak b, gb_microFrom b, gb_finalFrom b, gb_blockNext b, gb_blockTest b, gb_blockTarget b, us0, gb_finalOperand b)) x d) (gb_blockTest b (nI bi).toNatClampNeg)
  rw [cb]
  refine xg_mark (b := (gb_blocks b, gb_finals b, gb_blockAt b, gb_leads b, gb_blockCost b, gb_blockNeed b, gb_blockPeak b, gb_microFrom b, gb_finalFrom b, gb_blockNext b, gb_blockTest b, gb_blockTarget b, us0, gb_finalOperand b)) hbi hb hfm hL hGs hx hrep (fun us1 p1 p2 p3 => And.intro (pk_in bi 42 (by omega)) (nm_r (e' := nI ff) ?_ ⟨fe - ff + 1, ?_⟩))
  · show gb_finalFrom b (nI bi).toNatClampNeg = _
    rw [pk_cl bi]; exact hff
  refine xh_70 (b := b) (ff := ff) hbi hb hfm hfe hfe5 hL hGs hx hrep us1 (fun us2 q1 q2 => ⟨L + 1, ?_⟩) (fe - ff) ff us1 (Nat.le_refl _) (by omega) (fun _ _ h => h) (fun i' i1 i2 => by omega)
  refine xh_101 (b := b) hbi hb hfm hL hG hm hn hk9 hx hrep us2 (fun us3 r1 r2 => ⟨L + 1, ?_⟩) L us2 (Nat.le_refl _) (fun _ _ h => h) (fun j j1 j2 => by omega)
  refine xh_168 (mo := mo) (mt := mt) (ma := ma) (mb := mb) (b := (gb_blocks b, gb_finals b, gb_blockAt b, gb_leads b, gb_blockCost b, gb_blockNeed b, gb_blockPeak b, gb_microFrom b, gb_finalFrom b, gb_blockNext b, gb_blockTest b, gb_blockTarget b, us3, gb_finalOperand b)) (x := x) hL hG h1 (fun mo' mt' ma' mb' g Lk k1 k2 k3 k4 k5 => ?_) L 0 0 (gx_microOp x) (gx_microTarget x) (gx_microA x) (gx_microB x) G (by omega) (Nat.le_refl _) (fun k hk => absurd hk (Nat.not_lt_zero _)) (fun k _ hk => ?_) (fun q _ => ?_) (fun k hk => absurd hk (Nat.not_lt_zero _)) (fun _ _ _ => rfl)
  · refine kk us3 mo' mt' ma' mb' g Lk (fun k => us3 (mf + k)) k1 k2 k3 k4 r2 (fun k hk z1 z2 => r1 k hk (q1 k hk (p1 k hk (hla k hk z1 z2)))) (fun j hj => r1 j hj.1 (q1 j hj.1 (p2 j hj))) (fun i i1 i2 j hj => r1 j hj.1 (q2 i i1 i2 j hj)) k5
  · rw [h8, h9, h10, h11]
    obtain ⟨a1, a2, a3, a4, _⟩ := hrep k hk
    exact ⟨a1, a2, a3, a4⟩
  · rw [h8, h9, h10, h11]; exact ⟨rfl, rfl, rfl, rfl⟩
end XH2
end
section
/-! the certificate of a block -/
def bc_pc (v : Nat → Int32) (nx : Nat) (test : Option (Nat × Nat)) : Nat := match test with
  | none => nx
  | some t => if v t.1 = 0 then t.2 else nx
/-- a translated block before what nobody uses is left out: F its final operands -/
def te_sem (sz : Nat) (op : Nat → Nat) (num : Nat → Int32) (start : Nat) (K : Nat → Int32) (nc : Nat) (G : ty_G) (L : Nat) (F : List Nat) (cost need peak nx : Nat) (test : Option (Nat × Nat)) : Prop :=
  ∀ K', (∀ i, i < nc → K' i = K i) → ∀ (S0 : List Int32) (R : List Nat) (I O : List Int32) (W0 : Nat → Int32), need ≤ S0.length → S0.length + peak ≤ 16 →
    ∃ tmp W, (∀ k, k < L → mi_eq K' (tv_old S0) tmp W0 (G k)) ∧ (∀ n, n < 64 → mi_ws (tv_v K' (tv_old S0) tmp) W0 G L n = W n) ∧
      am_sN sz op num cost (start, S0, R, I, O, W0) (bc_pc (tv_v K' (tv_old S0) tmp) nx test, tv_S (tv_v K' (tv_old S0) tmp) S0 F need, R, I, O, W)
def bc_ok (sz : Nat) (op : Nat → Nat) (num : Nat → Int32) (start : Nat) (K : Nat → Int32) (nc : Nat) (g : ty_G) (Lk : Nat) (F : List Nat) (cost need peak nx : Nat) (test : Option (Nat × Nat)) : Prop :=
  ∀ K', (∀ i, i < nc → K' i = K i) → ∀ (S0 : List Int32) (R : List Nat) (I O : List Int32) (W0 : Nat → Int32), need ≤ S0.length → S0.length + peak ≤ 16 → ∀ s0 : (Nat → Int32) × (Nat → Int32), (∀ n, n < 64 → s0.2 n = W0 n) →
    ∃ W, (∀ n, n < 64 → (mr_run K' (tv_old S0) g Lk s0).2 n = W n) ∧
      am_sN sz op num cost (start, S0, R, I, O, W0) (bc_pc (tv_v K' (tv_old S0) (mr_run K' (tv_old S0) g Lk s0).1) nx test, tv_S (tv_v K' (tv_old S0) (mr_run K' (tv_old S0) g Lk s0).1) S0 F need, R, I, O, W)
theorem bc_make {sz : Nat} {op : Nat → Nat} {num : Nat → Int32} {start : Nat} {K : Nat → Int32} {nc : Nat} {G g : ty_G} {L Lk : Nat} {F : List Nat} {cost need peak nx : Nat} {test : Option (Nat × Nat)} {u : Nat → Int32}
    (hn : nc ≤ 1000) (hk : need ≤ 900) (hm : ∀ k, k < L → mi_ok G nc need k) (hF : ∀ o, o ∈ F → to_ok nc need (tb_n G L) o) (hT : ∀ o tg, test = some (o, tg) → to_ok nc need (tb_n G L) o)
    (hcl : ∀ k, k < L → mr_cl G L u k) (hla : ∀ k, k < L → mr_last G L u k) (hFu : ∀ o, o ∈ F → ∀ j, mr_def G L o j → ¬ u j = 0) (hTu : ∀ o tg, test = some (o, tg) → ∀ j, mr_def G L o j → ¬ u j = 0)
    (hrun : ∀ K old s, mr_run K old g Lk s = mr_k K old G u L s) (hte : te_sem sz op num start K nc G L F cost need peak nx test) : bc_ok sz op num start K nc g Lk F cost need peak nx test := by
  intro K' hag S0 R I O W0 h1 h2 s0 hs0
  obtain ⟨tmp, W, t1, t2, t3⟩ := hte K' hag S0 R I O W0 h1 h2
  obtain ⟨m1, m2, m3⟩ := mr_main (K := K') (old := tv_old S0) (tmp := tmp) (W0 := W0) (s0 := s0) hm hn hk t1 hcl hla hs0 L (Nat.le_refl _)
  have ev : ∀ o, to_ok nc need (tb_n G L) o → (∀ j, mr_def G L o j → ¬ u j = 0) → tv_v K' (tv_old S0) (mr_k K' (tv_old S0) G u L s0).1 o = tv_v K' (tv_old S0) tmp o := fun o ho hu => mr_val hm hn hk (Nat.le_refl _) ho hu m1
  refine ⟨W, fun n hn => ?_, ?_⟩
  · rw [hrun]
    rcases m3 n hn with ⟨j, j1, j2, _⟩ | q
    · omega
    · rw [q]; exact t2 n hn
  · rw [hrun]
    have e1 : tv_S (tv_v K' (tv_old S0) (mr_k K' (tv_old S0) G u L s0).1) S0 F need = tv_S (tv_v K' (tv_old S0) tmp) S0 F need := by
      unfold tv_S
      congr 1
      exact List.map_congr_left (fun o ho => ev o (hF o ho) (hFu o ho))
    have e2 : bc_pc (tv_v K' (tv_old S0) (mr_k K' (tv_old S0) G u L s0).1) nx test = bc_pc (tv_v K' (tv_old S0) tmp) nx test := by
      cases ht : test with
      | none => rfl
      | some t =>
        obtain ⟨o, tg⟩ := t
        unfold bc_pc
        dsimp only
        rw [ev o (hT o tg ht) (hTu o tg ht)]
    rw [e1, e2]; exact t3
/-- a kept micro can be run -/
def mv_ok (nc need : Nat) (g : Nat × Nat × Nat × Nat) : Prop :=
  (g.1 = 17 ∧ g.2.1 < 64 ∧ to_ok nc need 64 g.2.2.1) ∨ (g.1 = 16 ∧ 2000 ≤ g.2.1 ∧ g.2.1 < 2064 ∧ g.2.2.1 < 64) ∨ (to_sum g.1 ∧ 2000 ≤ g.2.1 ∧ g.2.1 < 2064 ∧ to_ok nc need 64 g.2.2.1 ∧ to_ok nc need 64 g.2.2.2)
theorem mv_of {G : ty_G} {L nc need k : Nat} (hL : L ≤ 60) (hk : k < L) (h : mi_ok G nc need k) : mv_ok nc need (G k) := by
  have ht : tb_n G k ≤ k := tb_le
  rcases h with h | h | h
  · exact Or.inl ⟨h.1, h.2.1, to_mono h.2.2 (Nat.le_refl _) (Nat.le_refl _) (by omega)⟩
  · exact Or.inr (Or.inl ⟨h.1, by omega, by omega, h.2.2.1⟩)
  · exact Or.inr (Or.inr ⟨h.1, by omega, by omega, to_mono h.2.2.1 (Nat.le_refl _) (Nat.le_refl _) (by omega), to_mono h.2.2.2 (Nat.le_refl _) (Nat.le_refl _) (by omega)⟩)
/-- block bi of the tables: it begins at start; its micros are those from mf to me, its finals those from ff to fe -/
def bl_R (sz : Nat) (op : Nat → Nat) (num : Nat → Int32) (start : Nat) (b : ty_B) (x : ty_X) (bi mf me ff fe nc : Nat) : Prop :=
  ∃ (g : ty_G) (Lk : Nat) (F : List Nat) (cost need peak nx : Nat) (test : Option (Nat × Nat)),
    (me = mf + Lk ∧ fe = ff + F.length ∧ 1 ≤ cost ∧ cost ≤ 40 ∧ need ≤ 100 ∧ peak ≤ 120 ∧ nx ≤ 40 ∧ me ≤ 128 ∧ fe ≤ 512 ∧ nc ≤ 256 ∧ F.length ≤ peak + need) ∧
    (gb_blockCost b bi = nI cost ∧ gb_blockNeed b bi = nI need ∧ gb_blockPeak b bi = nI peak ∧ gb_blockNext b bi = nI nx) ∧
    (test = none → gb_blockTest b bi = -1) ∧ (∀ o tg, test = some (o, tg) → gb_blockTest b bi = nI o ∧ gb_blockTarget b bi = nI tg ∧ to_ok nc need 64 o ∧ tg ≤ 40) ∧
    ti_rep mf Lk g (gx_microOp x) (gx_microTarget x) (gx_microA x) (gx_microB x) ∧ sg_R (gb_finalOperand b) ff (F.map nI) ∧ (∀ k, k < Lk → mv_ok nc need (g k)) ∧ (∀ o, o ∈ F → to_ok nc need 64 o) ∧
    bc_ok sz op num start (gx_constant x) nc g Lk F cost need peak nx test
/-- all but what belongs to block bi and to finals from ff on is as before -/
def fb_R (b b' : ty_B) (bi ff : Nat) : Prop := gb_blocks b' = gb_blocks b ∧ gb_blockAt b' = gb_blockAt b ∧ gb_leads b' = gb_leads b ∧ (∀ i, i < ff → gb_finalOperand b' i = gb_finalOperand b i) ∧
  ∀ i, i ≠ bi → gb_blockCost b' i = gb_blockCost b i ∧ gb_blockNeed b' i = gb_blockNeed b i ∧ gb_blockPeak b' i = gb_blockPeak b i ∧ gb_blockNext b' i = gb_blockNext b i ∧ gb_blockTest b' i = gb_blockTest b i ∧ gb_blockTarget b' i = gb_blockTarget b i ∧ gb_microFrom b' i = gb_microFrom b i ∧ gb_finalFrom b' i = gb_finalFrom b i
def fx_R (x x' : ty_X) (mf nc : Nat) : Prop := (∀ i, i < mf → gx_microOp x' i = gx_microOp x i ∧ gx_microTarget x' i = gx_microTarget x i ∧ gx_microA x' i = gx_microA x i ∧ gx_microB x' i = gx_microB x i) ∧ ∀ i, i < nc → gx_constant x' i = gx_constant x i
theorem bl_keep {sz : Nat} {op : Nat → Nat} {num : Nat → Int32} {start : Nat} {b b' : ty_B} {x x' : ty_X} {bi bj mf me ff fe nc mf2 ff2 nc2 : Nat} (h : bl_R sz op num start b x bi mf me ff fe nc) (hne : bi ≠ bj) (hm : me ≤ mf2) (hf : fe ≤ ff2) (hn : nc ≤ nc2) (hb : fb_R b b' bj ff2) (hx : fx_R x x' mf2 nc2) : bl_R sz op num start b' x' bi mf me ff fe nc := by
  obtain ⟨g, Lk, F, cost, need, peak, nx, test, ⟨a1, a2, a3, a4, a5, a6, a7, a8, a9, a10⟩, ⟨c1, c2, c3, c4⟩, t0, t1, hr, hs, hmv, hF, hc⟩ := h
  obtain ⟨q1, q2, q3, q4, q5, q6, -, -⟩ := hb.2.2.2.2 bi hne
  refine ⟨g, Lk, F, cost, need, peak, nx, test, ⟨a1, a2, a3, a4, a5, a6, a7, a8, a9, a10⟩, ⟨q1.trans c1, q2.trans c2, q3.trans c3, q4.trans c4⟩, fun z => q5.trans (t0 z), fun o tg z => ⟨q5.trans (t1 o tg z).1, q6.trans (t1 o tg z).2.1, (t1 o tg z).2.2⟩, ?_, ?_, hmv, hF, ?_⟩
  · intro k hk
    obtain ⟨r1, r2, r3, r4, r5⟩ := hr k hk
    obtain ⟨w1, w2, w3, w4⟩ := hx.1 (mf + k) (by omega)
    exact ⟨w1.trans r1, w2.trans r2, w3.trans r3, w4.trans r4, r5⟩
  · refine sg_mv (fun i hi => ?_) hs
    rw [List.length_map] at hi
    exact hb.2.2.2.1 (ff + i) (by omega)
  · intro K' hag
    exact hc K' (fun i hi => (hag i hi).trans (hx.2 i (by omega)))
end
section
/-! a block is translated -/
theorem te_0 {sz : Nat} {op : Nat → Nat} {num : Nat → Int32} {start p : Nat} {K : Nat → Int32} {G : ty_G} {L nc tk pk : Nat} {N : List Nat} {WO : Nat → Option Nat} (h : ti_sem sz op num start p K G L nc tk pk N WO) : te_sem sz op num start K nc G L N (p - start) tk pk p none := by
  intro K' hag S0 R I O W0 h1 h2
  obtain ⟨tmp, S, W, ⟨f1, f2, f3, f4⟩, hn⟩ := h K' hag S0 R I O W0 h1 h2
  rw [f1] at hn
  exact ⟨tmp, W, f2, f4, hn⟩
theorem te_18 {sz : Nat} {op : Nat → Nat} {num : Nat → Int32} {start p j : Nat} {K : Nat → Int32} {G : ty_G} {L nc tk pk : Nat} {N : List Nat} {WO : Nat → Option Nat} (hs : start ≤ p) (hp : p < sz) (hop : op p = 18) (hnum : num p = nI j) (hj : j ≤ 40) (hN : N.length ≤ pk + tk) (h : ti_sem sz op num start p K G L nc tk pk N WO) : te_sem sz op num start K nc G L N (p + 1 - start) tk pk j none := by
  intro K' hag S0 R I O W0 h1 h2
  obtain ⟨tmp, S, W, ⟨f1, f2, f3, f4⟩, hn⟩ := h K' hag S0 R I O W0 h1 h2
  rw [f1] at hn
  refine ⟨tmp, W, f2, f4, ?_⟩
  rw [show p + 1 - start = (p - start) + 1 by omega]
  have hl : (tv_S (tv_v K' (tv_old S0) tmp) S0 N tk).length ≤ 16 := ts_len hN h1 h2
  refine ⟨_, hn, hp, ?_, ?_, ?_⟩
  · show am_hi (op p) _ = 1
    rw [hop]
    refine am_can_hi ⟨Nat.zero_le _, fun z => ?_, fun z => ?_, fun z => ?_, ?_, fun z => ?_, fun z => ?_, fun z => ?_⟩
    · omega
    · omega
    · omega
    · rw [show am_tk 18 = 0 from rfl, show am_gv 18 = 0 from rfl]; dsimp only; omega
    · omega
    · omega
    · omega
  · show ¬ op p = 24
    omega
  · show _ = am_go (op p) (num p) _
    rw [hop, hnum]
    show (j, _, R, I, O, W) = ((nI j).toNatClampNeg, _, R, I, O, W)
    rw [pk_cl j]; rfl
theorem te_19 {sz : Nat} {op : Nat → Nat} {num : Nat → Int32} {start p j : Nat} {K : Nat → Int32} {G : ty_G} {L nc tk pk tk1 o1 : Nat} {N N1 : List Nat} {WO : Nat → Option Nat} (hs : start ≤ p) (hp : p < sz) (hop : op p = 19) (hnum : num p = nI j) (hj : j ≤ 40) (hN : N1.length ≤ pk + tk1) (l2 : tk ≤ tk1)
    (l4 : N1.length + tk + 1 = N.length + tk1) (hN0 : N.length ≤ pk + tk)
    (den : ∀ (K' tmp : Nat → Int32) (S0 : List Int32), tk1 ≤ S0.length → tv_S (tv_v K' (tv_old S0) tmp) S0 N tk = tv_v K' (tv_old S0) tmp o1 :: tv_S (tv_v K' (tv_old S0) tmp) S0 N1 tk1)
    (h : ti_sem sz op num start p K G L nc tk pk N WO) : te_sem sz op num start K nc G L N1 (p + 1 - start) tk1 pk (p + 1) (some (o1, j)) := by
  intro K' hag S0 R I O W0 h1 h2
  obtain ⟨tmp, S, W, ⟨f1, f2, f3, f4⟩, hn⟩ := h K' hag S0 R I O W0 (by omega) h2
  have hl : (tv_S (tv_v K' (tv_old S0) tmp) S0 N tk).length ≤ 16 := ts_len hN0 (by omega) h2
  rw [f1, den K' tmp S0 h1] at hn
  rw [den K' tmp S0 h1, List.length_cons] at hl
  refine ⟨tmp, W, f2, f4, ?_⟩
  rw [show p + 1 - start = (p - start) + 1 by omega]
  refine ⟨_, hn, hp, ?_, ?_, ?_⟩
  · show am_hi (op p) _ = 1
    rw [hop]
    refine am_can_hi ⟨Nat.le_add_left _ _, fun z => ?_, fun z => ?_, fun z => ?_, ?_, fun z => ?_, fun z => ?_, fun z => ?_⟩
    · omega
    · omega
    · omega
    · rw [show am_tk 19 = 1 from rfl, show am_gv 19 = 0 from rfl]; dsimp only; rw [List.length_cons]; omega
    · omega
    · omega
    · omega
  · show ¬ op p = 24
    omega
  · show _ = am_go (op p) (num p) _
    rw [hop, hnum]
    show (if _ = 0 then j else p + 1, _, R, I, O, W) = (if _ = 0 then (nI j).toNatClampNeg else p + 1, _, R, I, O, W)
    rw [pk_cl j]; rfl
theorem sg_el {f : Nat → Int32} {k : Nat} : ∀ {N : List Nat} {i : Nat}, sg_R f k (N.map nI) → i < N.length → ∃ o, o ∈ N ∧ f (k + i) = nI o := by
  intro N
  induction N with
  | nil => intro i _ hi; exact absurd hi (Nat.not_lt_zero _)
  | cons o N ih =>
    intro i h hi
    have h1 : f (k + (N.map nI).length) = nI o := h.1
    rw [List.length_map] at h1
    by_cases e : i = N.length
    · subst e; exact ⟨o, List.mem_cons_self .., h1⟩
    · obtain ⟨o', ho', e'⟩ := ih h.2 (show i < N.length by rw [List.length_cons] at hi; omega)
      exact ⟨o', List.mem_cons_of_mem _ ho', e'⟩
section XI
variable {c : ty_C} {m : ty_M} {e : ty_E} {b : ty_B} {x : ty_X} {d : ty_D} {mf L nc tk pk : Nat} {N : List Nat} {mo mt ma mb K wo : Nat → Int32} {G : ty_G} {post : SX → Prop} {sz : Nat} {op : Nat → Nat} {num : Nat → Int32} {start : Nat}
theorem xi_313 {bi ff tm : Nat} (hN9 : N.length ≤ 130) (hff : ff + N.length ≤ 512) (hNo : ∀ o, o ∈ N → o < 32768) (hx : xr_R x (mf + L) nc tm tk pk N mo mt ma mb K wo)
    (kk : ∀ fo, (∀ j, j < N.length → fo (ff + j) = gx_newStack x j) → (∀ j, j < ff → fo j = gb_finalOperand b j) → lo_translateBlock_313 post (nI bi) 1 (nI N.length) c m e ((gb_blocks b, nI (ff + N.length), gb_blockAt b, gb_leads b, gb_blockCost b, gb_blockNeed b, gb_blockPeak b, gb_microFrom b, gb_finalFrom b, gb_blockNext b, gb_blockTest b, gb_blockTarget b, gb_microUsed b, fo)) x d) :
    ∀ dd i fo, i + dd = N.length → (∀ j, j < i → fo (ff + j) = gx_newStack x j) → (∀ j, j < ff → fo j = gb_finalOperand b j) → lo_translateBlock_313 post (nI bi) (dd + 1) (nI i) c m e ((gb_blocks b, nI (ff + i), gb_blockAt b, gb_leads b, gb_blockCost b, gb_blockNeed b, gb_blockPeak b, gb_microFrom b, gb_finalFrom b, gb_blockNext b, gb_blockTest b, gb_blockTarget b, gb_microUsed b, fo)) x d := by
  have hx0 := hx
  obtain ⟨h1, h2, h3, h4, h5, h6, h7, h8, h9, h10, h11, h12, h13⟩ := hx0
  intro dd
  induction dd with
  | zero =>
    intro i fo hi p1 p2
    have e0 : i = N.length := by omega
    subst e0
    exact kk fo p1 p2
  | succ dd ih =>
    intro i fo hi p1 p2
    obtain ⟨o, ho, eo⟩ := sg_el h7 (show i < N.length by omega)
    rw [Nat.zero_add] at eo
    refine br_f ?_ (And.intro (pk_in i 160 (by omega)) (And.intro (pk_in (ff + i) 512 (by omega)) (nm_r (e' := upd fo (ff + i) (gx_newStack x i)) ?_ (nm_r (e' := nI (ff + (i + 1))) (nI_1 (ff + i)) (nm_r (e' := nI (i + 1)) (nI_1 i) ?_)))))
    · show ¬ gx_newSize x ≤ _
      rw [h3]; exact nI_ge (by omega) (by omega)
    · show upd fo (nI (ff + i)).toNatClampNeg (vp_nar .short (gx_newStack x (nI i).toNatClampNeg)) = _
      rw [pk_cl (ff + i), pk_cl i, eo, wi_ss (hNo o ho)]
    · refine ih (i + 1) (upd fo (ff + i) (gx_newStack x i)) (by omega) (fun j hj => ?_) (fun j hj => ?_)
      · by_cases e : j = i
        · subst e; exact pk_us
        · rw [pk_un (by omega)]; exact p1 j (by omega)
      · rw [pk_un (by omega)]; exact p2 j hj
theorem xi_278 {bi ff pe nx : Nat} {test : Option (Nat × Nat)} (hbi : bi < 41) (hb : gb_blocks b = nI bi) (hfm : gb_microFrom b bi = nI mf) (hff : gb_finalFrom b bi = nI ff) (hfn : gb_finals b = nI ff)
    (hs : start < pe) (hpe : pe ≤ 40) (hmf : mf ≤ start) (hL : L ≤ pe - start) (hnc : nc ≤ pe) (htk : tk ≤ 2 * (pe - start)) (hNl : N.length ≤ 3 * (pe - start)) (hpk : pk ≤ 3 * (pe - start)) (hNp : N.length ≤ pk + tk) (hf3 : ff ≤ 3 * start) (hnx : nx ≤ 40)
    (hx : xr_R x (mf + L) nc (tb_n G L) tk pk N mo mt ma mb K wo) (hrep : ti_rep mf L G mo mt ma mb) (hmi : ∀ k, k < L → mi_ok G nc tk k) (hN : ∀ o, o ∈ N → to_ok nc tk (tb_n G L) o)
    (hbn : gb_blockNext b bi = nI nx) (ht0 : test = none → gb_blockTest b bi = -1) (ht1 : ∀ o tg, test = some (o, tg) → gb_blockTest b bi = nI o ∧ gb_blockTarget b bi = nI tg ∧ to_ok nc tk (tb_n G L) o ∧ tg ≤ 40)
    (hte : te_sem sz op num start K nc G L N (pe - start) tk pk nx test)
    (kk : ∀ b' x' Lk, Lk ≤ L → fb_R b b' bi ff → fx_R x x' mf nc → gb_microFrom b' bi = nI mf → gb_finalFrom b' bi = nI ff → gb_finals b' = nI (ff + N.length) → gx_micros x' = nI (mf + Lk) → gx_constants x' = nI nc →
      bl_R sz op num start b' x' bi mf (mf + Lk) ff (ff + N.length) nc → post (mk_S c m e b' x' d)) : lo_translateBlock_278 post (nI start) (nI bi) (nI pe) c m e b x d := by
  have hx0 := hx
  obtain ⟨h1, h2, h3, h4, h5, h6, h7, h8, h9, h10, h11, h12, h13⟩ := hx0
  have htm : tb_n G L ≤ L := tb_le
  have vb : vp_in (nI bi) 41 := pk_in bi 41 hbi
  have cb : (nI bi).toNatClampNeg = bi := pk_cl bi
  refine And.intro vb (nm_r (e' := upd (gb_blockCost b) bi (nI (pe - start))) ?_ (And.intro vb (nm_r (e' := upd (gb_blockNeed b) bi (nI tk)) ?_ (And.intro vb (nm_r (e' := upd (gb_blockPeak b) bi (nI pk)) ?_ ⟨N.length + 1, ?_⟩)))))
  · show upd (gb_blockCost b) (nI bi).toNatClampNeg (vp_nar .byte (nI pe - nI start).toInt8.toInt32) = _
    rw [cb, pk_vb, pk_sub (by omega), wi_b (by omega)]
  · show upd (gb_blockNeed b) (nI bi).toNatClampNeg (vp_nar .short (gx_taken x).toInt16.toInt32) = _
    rw [cb, pk_vs, h4, wi_s (by omega)]
  · show upd (gb_blockPeak b) (nI bi).toNatClampNeg (vp_nar .byte (gx_peak x).toInt8.toInt32) = _
    rw [cb, pk_vb, h5, wi_b (by omega)]
  · have hok32 : ∀ o, to_ok nc tk (tb_n G L) o → o < 32768 := fun o ho => by unfold to_ok at ho; omega
    have start0 : lo_translateBlock_313 post (nI bi) (N.length + 1) (nI 0) c m e ((gb_blocks (gb_blocks b, gb_finals b, gb_blockAt b, gb_leads b, upd (gb_blockCost b) bi (nI (pe - start)), upd (gb_blockNeed b) bi (nI tk), upd (gb_blockPeak b) bi (nI pk), gb_microFrom b, gb_finalFrom b, gb_blockNext b, gb_blockTest b, gb_blockTarget b, gb_microUsed b, gb_finalOperand b), nI (ff + 0), gb_blockAt (gb_blocks b, gb_finals b, gb_blockAt b, gb_leads b, upd (gb_blockCost b) bi (nI (pe - start)), upd (gb_blockNeed b) bi (nI tk), upd (gb_blockPeak b) bi (nI pk), gb_microFrom b, gb_finalFrom b, gb_blockNext b, gb_blockTest b, gb_blockTarget b, gb_microUsed b, gb_finalOperand b), gb_leads (gb_blocks b, gb_finals b, gb_blockAt b, gb_leads b, upd (gb_blockCost b) bi (nI (pe - start)), upd (gb_blockNeed b) bi (nI tk), upd (gb_blockPeak b) bi (nI pk), gb_microFrom b, gb_finalFrom b, gb_blockNext b, gb_blockTest b, gb_blockTarget b, gb_microUsed b, gb_finalOperand b), gb_blockCost (gb_blocks b, gb_finals b, gb_blockAt b, gb_leads b, upd (gb_blockCost b) bi (nI (pe - start)), upd (gb_blockNeed b) bi (nI tk), upd (gb_blockPeak b) bi (nI pk), gb_microFrom b, gb_finalFrom b, gb_blockNext b, gb_blockTest b, gb_blockTarget b, gb_microUsed b, gb_finalOperand b), gb_blockNeed (gb_blocks b, gb_finals b, gb_blockAt b, gb_leads b, upd (gb_blockCost b) bi (nI (pe - start)), upd (gb_blockNeed b) bi (nI tk), upd (gb_blockPeak b) bi (nI pk), gb_microFrom b, gb_finalFrom b, gb_blockNext b, gb_blockTest b, gb_blockTarget b, gb_microUsed b, gb_finalOperand b), gb_blockPeak (gb_blocks b, gb_finals b, gb_blockAt b, gb_leads b, upd (gb_blockCost b) bi (nI (pe - start)), upd (gb_blockNeed b) bi (nI tk), upd (gb_blockPeak b) bi (nI pk), gb_microFrom b, gb_finalFrom b, gb_blockNext b, gb_blockTest b, gb_blockTarget b, gb_microUsed b, gb_finalOperand b), gb_microFrom (gb_blocks b, gb_finals b, gb_blockAt b, gb_leads b, upd (gb_blockCost b) bi (nI (pe - start)), upd (gb_blockNeed b) bi (nI tk), upd (gb_blockPeak b) bi (nI pk), gb_microFrom b, gb_finalFrom b, gb_blockNext b, gb_blockTest b, gb_blockTarget b, gb_microUsed b, gb_finalOperand b), gb_finalFrom (gb_blocks b, gb_finals b, gb_blockAt b, gb_leads b, upd (gb_blockCost b) bi (nI (pe - start)), upd (gb_blockNeed b) bi (nI tk), upd (gb_blockPeak b) bi (nI pk), gb_microFrom b, gb_finalFrom b, gb_blockNext b, gb_blockTest b, gb_blockTarget b, gb_microUsed b, gb_finalOperand b), gb_blockNext (gb_blocks b, gb_finals b, gb_blockAt b, gb_leads b, upd (gb_blockCost b) bi (nI (pe - start)), upd (gb_blockNeed b) bi (nI tk), upd (gb_blockPeak b) bi (nI pk), gb_microFrom b, gb_finalFrom b, gb_blockNext b, gb_blockTest b, gb_blockTarget b, gb_microUsed b, gb_finalOperand b), gb_blockTest (gb_blocks b, gb_finals b, gb_blockAt b, gb_leads b, upd (gb_blockCost b) bi (nI (pe - start)), upd (gb_blockNeed b) bi (nI tk), upd (gb_blockPeak b) bi (nI pk), gb_microFrom b, gb_finalFrom b, gb_blockNext b, gb_blockTest b, gb_blockTarget b, gb_microUsed b, gb_finalOperand b), gb_blockTarget (gb_blocks b, gb_finals b, gb_blockAt b, gb_leads b, upd (gb_blockCost b) bi (nI (pe - start)), upd (gb_blockNeed b) bi (nI tk), upd (gb_blockPeak b) bi (nI pk), gb_microFrom b, gb_finalFrom b, gb_blockNext b, gb_blockTest b, gb_blockTarget b, gb_microUsed b, gb_finalOperand b), gb_microUsed (gb_blocks b, gb_finals b, gb_blockAt b, gb_leads b, upd (gb_blockCost b) bi (nI (pe - start)), upd (gb_blockNeed b) bi (nI tk), upd (gb_blockPeak b) bi (nI pk), gb_microFrom b, gb_finalFrom b, gb_blockNext b, gb_blockTest b, gb_blockTarget b, gb_microUsed b, gb_finalOperand b), gb_finalOperand b)) x d := by
      refine xi_313 (b := (gb_blocks b, gb_finals b, gb_blockAt b, gb_leads b, upd (gb_blockCost b) bi (nI (pe - start)), upd (gb_blockNeed b) bi (nI tk), upd (gb_blockPeak b) bi (nI pk), gb_microFrom b, gb_finalFrom b, gb_blockNext b, gb_blockTest b, gb_blockTarget b, gb_microUsed b, gb_finalOperand b)) (by omega) (by omega) (fun o ho => hok32 o (hN o ho)) hx (fun fo p1 p2 => ?_) N.length 0 (gb_finalOperand b) (by omega) (fun j hj => absurd hj (Nat.not_lt_zero _)) (fun j _ => rfl)
      refine br_t ?_ ?_
      · show gx_newSize x ≤ _
        rw [h3]; exact nI_le (Nat.le_refl _) (by omega)
      · refine xh_main (b := (gb_blocks b, nI (ff + N.length), gb_blockAt b, gb_leads b, upd (gb_blockCost b) bi (nI (pe - start)), upd (gb_blockNeed b) bi (nI tk), upd (gb_blockPeak b) bi (nI pk), gb_microFrom b, gb_finalFrom b, gb_blockNext b, gb_blockTest b, gb_blockTarget b, gb_microUsed b, fo)) (ff := ff) (fe := ff + N.length) (nc := nc) (tk := tk) hbi hb hfm hff rfl (by omega) (by omega) (by omega) (fun j hj => ?_) hmi (by omega) (by omega) hx hrep (fun us mo' mt' ma' mb' g Lk u k1 k2 k3 k4 k5 k6 k7 k8 k9 => ?_)
        · obtain ⟨_, _, _, _, r5⟩ := hrep j hj
          have htb : tb_n G j ≤ j := tb_le
          rcases hmi j hj with q | q | q
          · have := q.2.2; unfold to_ok at this; omega
          · omega
          · have q1 := q.1; have q2 := q.2.2.1; unfold to_sum at q1; unfold to_ok at q2; omega
        · have hfo : sg_R fo ff (N.map nI) := sg_mv (fun i hi => by rw [List.length_map] at hi; rw [p1 i hi, Nat.zero_add]) h7
          refine kk ((gb_blocks b, nI (ff + N.length), gb_blockAt b, gb_leads b, upd (gb_blockCost b) bi (nI (pe - start)), upd (gb_blockNeed b) bi (nI tk), upd (gb_blockPeak b) bi (nI pk), gb_microFrom b, gb_finalFrom b, gb_blockNext b, gb_blockTest b, gb_blockTarget b, us, fo)) ((nI (mf + Lk), gx_constants x, gx_newSize x, gx_taken x, gx_peak x, gx_temps x, mo', mt', ma', mb', gx_constant x, gx_newStack x, gx_wordOperand x)) Lk k1 ?_ ?_ hfm hff rfl rfl h2 ?_
          · refine ⟨rfl, rfl, rfl, p2, fun i hi => ⟨?_, ?_, ?_, rfl, rfl, rfl, rfl, rfl⟩⟩
            · exact pk_un hi
            · exact pk_un hi
            · exact pk_un hi
          · refine ⟨fun i hi => ?_, fun i _ => rfl⟩
            have := k3 i hi
            rw [h8, h9, h10, h11]
            exact this
          · refine ⟨g, Lk, N, pe - start, tk, pk, nx, test, ⟨rfl, rfl, by omega, by omega, by omega, by omega, hnx, by omega, by omega, by omega⟩, ⟨pk_us, pk_us, pk_us, hbn⟩, ht0, fun o tg z => ?_, k2, hfo, fun k hk => ?_, fun o ho => to_mono (hN o ho) (Nat.le_refl _) (Nat.le_refl _) (by omega), ?_⟩
            · obtain ⟨z1, z2, z3, z4⟩ := ht1 o tg z
              exact ⟨z1, z2, to_mono z3 (Nat.le_refl _) (Nat.le_refl _) (by omega), z4⟩
            · obtain ⟨k', hk', ek⟩ := k4 k hk
              rw [ek]; exact mv_of (by omega) hk' (hmi k' hk')
            · show bc_ok sz op num start (gx_constant x) nc g Lk N (pe - start) tk pk nx test
              rw [h12]
              refine bc_make (by omega) (by omega) hmi hN (fun o tg z => (ht1 o tg z).2.2.1) k5 k6 (fun o ho j hj => ?_) (fun o tg z j hj => ?_) k9 hte
              · have ho' := hok32 o (hN o ho)
                obtain ⟨i, hi, ei⟩ : ∃ i, i < N.length ∧ fo (ff + i) = nI o := by
                  have key : ∀ {M : List Nat}, sg_R fo ff (M.map nI) → o ∈ M → ∃ i, i < M.length ∧ fo (ff + i) = nI o := by
                    intro M
                    induction M with
                    | nil => intro _ hm; exact absurd hm List.not_mem_nil
                    | cons a M ih =>
                      intro hsg hm
                      rcases List.mem_cons.mp hm with rfl | hm
                      · have h1' : fo (ff + (M.map nI).length) = nI o := hsg.1
                        rw [List.length_map] at h1'
                        exact ⟨M.length, by rw [List.length_cons]; omega, h1'⟩
                      · obtain ⟨i, hi, ei⟩ := ih hsg.2 hm
                        exact ⟨i, by rw [List.length_cons]; omega, ei⟩
                  exact key hfo ho
                have hm := k8 (ff + i) (by omega) (by omega) j
                apply hm
                show md_I G L (fo (ff + i)) j
                rw [ei]; exact md_of (by omega) hj
              · obtain ⟨z1, z2, z3, z4⟩ := ht1 o tg z
                have ho' := hok32 o z3
                apply k7 j
                show md_I G L (gb_blockTest b bi) j
                rw [z1]; exact md_of (by omega) hj
    have e0 : ((gb_blocks (gb_blocks b, gb_finals b, gb_blockAt b, gb_leads b, upd (gb_blockCost b) bi (nI (pe - start)), upd (gb_blockNeed b) bi (nI tk), upd (gb_blockPeak b) bi (nI pk), gb_microFrom b, gb_finalFrom b, gb_blockNext b, gb_blockTest b, gb_blockTarget b, gb_microUsed b, gb_finalOperand b), nI (ff + 0), gb_blockAt (gb_blocks b, gb_finals b, gb_blockAt b, gb_leads b, upd (gb_blockCost b) bi (nI (pe - start)), upd (gb_blockNeed b) bi (nI tk), upd (gb_blockPeak b) bi (nI pk), gb_microFrom b, gb_finalFrom b, gb_blockNext b, gb_blockTest b, gb_blockTarget b, gb_microUsed b, gb_finalOperand b), gb_leads (gb_blocks b, gb_finals b, gb_blockAt b, gb_leads b, upd (gb_blockCost b) bi (nI (pe - start)), upd (gb_blockNeed b) bi (nI tk), upd (gb_blockPeak b) bi (nI pk), gb_microFrom b, gb_finalFrom b, gb_blockNext b, gb_blockTest b, gb_blockTarget b, gb_microUsed b, gb_finalOperand b), gb_blockCost (gb_blocks b, gb_finals b, gb_blockAt b, gb_leads b, upd (gb_blockCost b) bi (nI (pe - start)), upd (gb_blockNeed b) bi (nI tk), upd (gb_blockPeak b) bi (nI pk), gb_microFrom b, gb_finalFrom b, gb_blockNext b, gb_blockTest b, gb_blockTarget b, gb_microUsed b, gb_finalOperand b), gb_blockNeed (gb_blocks b, gb_finals b, gb_blockAt b, gb_leads b, upd (gb_blockCost b) bi (nI (pe - start)), upd (gb_blockNeed b) bi (nI tk), upd (gb_blockPeak b) bi (nI pk), gb_microFrom b, gb_finalFrom b, gb_blockNext b, gb_blockTest b, gb_blockTarget b, gb_microUsed b, gb_finalOperand b), gb_blockPeak (gb_blocks b, gb_finals b, gb_blockAt b, gb_leads b, upd (gb_blockCost b) bi (nI (pe - start)), upd (gb_blockNeed b) bi (nI tk), upd (gb_blockPeak b) bi (nI pk), gb_microFrom b, gb_finalFrom b, gb_blockNext b, gb_blockTest b, gb_blockTarget b, gb_microUsed b, gb_finalOperand b), gb_microFrom (gb_blocks b, gb_finals b, gb_blockAt b, gb_leads b, upd (gb_blockCost b) bi (nI (pe - start)), upd (gb_blockNeed b) bi (nI tk), upd (gb_blockPeak b) bi (nI pk), gb_microFrom b, gb_finalFrom b, gb_blockNext b, gb_blockTest b, gb_blockTarget b, gb_microUsed b, gb_finalOperand b), gb_finalFrom (gb_blocks b, gb_finals b, gb_blockAt b, gb_leads b, upd (gb_blockCost b) bi (nI (pe - start)), upd (gb_blockNeed b) bi (nI tk), upd (gb_blockPeak b) bi (nI pk), gb_microFrom b, gb_finalFrom b, gb_blockNext b, gb_blockTest b, gb_blockTarget b, gb_microUsed b, gb_finalOperand b), gb_blockNext (gb_blocks b, gb_finals b, gb_blockAt b, gb_leads b, upd (gb_blockCost b) bi (nI (pe - start)), upd (gb_blockNeed b) bi (nI tk), upd (gb_blockPeak b) bi (nI pk), gb_microFrom b, gb_finalFrom b, gb_blockNext b, gb_blockTest b, gb_blockTarget b, gb_microUsed b, gb_finalOperand b), gb_blockTest (gb_blocks b, gb_finals b, gb_blockAt b, gb_leads b, upd (gb_blockCost b) bi (nI (pe - start)), upd (gb_blockNeed b) bi (nI tk), upd (gb_blockPeak b) bi (nI pk), gb_microFrom b, gb_finalFrom b, gb_blockNext b, gb_blockTest b, gb_blockTarget b, gb_microUsed b, gb_finalOperand b), gb_blockTarget (gb_blocks b, gb_finals b, gb_blockAt b, gb_leads b, upd (gb_blockCost b) bi (nI (pe - start)), upd (gb_blockNeed b) bi (nI tk), upd (gb_blockPeak b) bi (nI pk), gb_microFrom b, gb_finalFrom b, gb_blockNext b, gb_blockTest b, gb_blockTarget b, gb_microUsed b, gb_finalOperand b), gb_microUsed (gb_blocks b, gb_finals b, gb_blockAt b, gb_leads b, upd (gb_blockCost b) bi (nI (pe - start)), upd (gb_blockNeed b) bi (nI tk), upd (gb_blockPeak b) bi (nI pk), gb_microFrom b, gb_finalFrom b, gb_blockNext b, gb_blockTest b, gb_blockTarget b, gb_microUsed b, gb_finalOperand b), gb_finalOperand b) : ty_B) = (gb_blocks b, gb_finals b, gb_blockAt b, gb_leads b, upd (gb_blockCost b) bi (nI (pe - start)), upd (gb_blockNeed b) bi (nI tk), upd (gb_blockPeak b) bi (nI pk), gb_microFrom b, gb_finalFrom b, gb_blockNext b, gb_blockTest b, gb_blockTarget b, gb_microUsed b, gb_finalOperand b) := by
      show ((gb_blocks b, nI (ff + 0), gb_blockAt b, gb_leads b, upd (gb_blockCost b) bi (nI (pe - start)), upd (gb_blockNeed b) bi (nI tk), upd (gb_blockPeak b) bi (nI pk), gb_microFrom b, gb_finalFrom b, gb_blockNext b, gb_blockTest b, gb_blockTarget b, gb_microUsed b, gb_finalOperand b) : ty_B) = _
      rw [Nat.add_zero, ← hfn]
    rw [e0] at start0
    exact start0
end XI
end
section
theorem xw_simple {post : Int32 → Prop} {q : Nat} (hq : q ≤ 24) (h1 : is_sim q → post 1) (h0 : ¬ is_sim q → post 0) : wpX_isSimple post (nI q) := by
  have hc : q = 0 ∨ q = 1 ∨ q = 2 ∨ q = 3 ∨ q = 4 ∨ q = 5 ∨ q = 6 ∨ q = 7 ∨ q = 8 ∨ q = 9 ∨ q = 10 ∨ q = 11 ∨ q = 12 ∨ q = 13 ∨ q = 14 ∨ q = 15 ∨ q = 16 ∨ q = 17 ∨ q = 18 ∨ q = 19 ∨ q = 20 ∨ q = 21 ∨ q = 22 ∨ q = 23 ∨ q = 24 := by omega
  rcases hc with rfl | rfl | rfl | rfl | rfl | rfl | rfl | rfl | rfl | rfl | rfl | rfl | rfl | rfl | rfl | rfl | rfl | rfl | rfl | rfl | rfl | rfl | rfl | rfl | rfl <;> (repeat (first | refine br_t (by decide) ?_ | refine br_f (by decide) ?_)) <;> first | exact h1 (by unfold is_sim; decide) | exact h0 (by unfold is_sim; decide)
theorem fb_refl {b : ty_B} {bi ff : Nat} : fb_R b b bi ff := ⟨rfl, rfl, rfl, fun _ _ => rfl, fun _ _ => ⟨rfl, rfl, rfl, rfl, rfl, rfl, rfl, rfl⟩⟩
theorem fb_trans {b b1 b2 : ty_B} {bi ff : Nat} (h1 : fb_R b b1 bi ff) (h2 : fb_R b1 b2 bi ff) : fb_R b b2 bi ff := by
  refine ⟨h2.1.trans h1.1, h2.2.1.trans h1.2.1, h2.2.2.1.trans h1.2.2.1, fun i hi => (h2.2.2.2.1 i hi).trans (h1.2.2.2.1 i hi), fun i hi => ?_⟩
  obtain ⟨p1, p2, p3, p4, p5, p6, p7, p8⟩ := h1.2.2.2.2 i hi
  obtain ⟨q1, q2, q3, q4, q5, q6, q7, q8⟩ := h2.2.2.2.2 i hi
  exact ⟨q1.trans p1, q2.trans p2, q3.trans p3, q4.trans p4, q5.trans p5, q6.trans p6, q7.trans p7, q8.trans p8⟩
theorem fx_of {x0 x : ty_X} {mi mf nc0 nc tm tk pk : Nat} {N : List Nat} {mo mt ma mb K wo : Nat → Int32} (h : xr_R x mi nc tm tk pk N mo mt ma mb K wo) (hf : ti_fr mf nc0 x0 mo mt ma mb K nc) : fx_R x0 x mf nc0 := by
  obtain ⟨h1, h2, h3, h4, h5, h6, h7, h8, h9, h10, h11, h12, h13⟩ := h
  unfold fx_R
  rw [h8, h9, h10, h11, h12]
  exact ⟨hf.1, hf.2.2⟩
theorem fx_trans {x0 x x' : ty_X} {mf nc0 nc : Nat} (h1 : fx_R x0 x mf nc0) (h2 : fx_R x x' mf nc) (h : nc0 ≤ nc) : fx_R x0 x' mf nc0 := by
  refine ⟨fun i hi => ?_, fun i hi => (h2.2 i (by omega)).trans (h1.2 i hi)⟩
  obtain ⟨p1, p2, p3, p4⟩ := h1.1 i hi
  obtain ⟨q1, q2, q3, q4⟩ := h2.1 i hi
  exact ⟨q1.trans p1, q2.trans p2, q3.trans p3, q4.trans p4⟩
/-- what a translated block leaves behind -/
def tb_out (sz : Nat) (op : Nat → Nat) (num : Nat → Int32) (start bi mf ff nc0 : Nat) (b : ty_B) (x0 : ty_X) (b' : ty_B) (x' : ty_X) (pe me fe nc : Nat) : Prop :=
  (start < pe ∧ pe ≤ sz ∧ mf ≤ me ∧ me ≤ pe ∧ ff ≤ fe ∧ fe ≤ 3 * pe ∧ nc0 ≤ nc ∧ nc ≤ pe) ∧ (∀ q, start < q → q < pe → gb_leads b q = 0) ∧ fb_R b b' bi ff ∧ fx_R x0 x' mf nc0 ∧
  (gb_microFrom b' bi = nI mf ∧ gb_finalFrom b' bi = nI ff ∧ gb_finals b' = nI fe ∧ gx_micros x' = nI me ∧ gx_constants x' = nI nc) ∧ bl_R sz op num start b' x' bi mf me ff fe nc
section XJ
variable {c : ty_C} {m : ty_M} {e : ty_E} {b : ty_B} {x : ty_X} {d : ty_D} {post : SX → Prop} {sz : Nat} {op : Nat → Nat} {num : Nat → Int32} {mf start p nc0 bi ff : Nat} {x0 : ty_X}
theorem xj_153 (hcode : am_code sz op num) (hC : cx_R c sz op num) (hbi : bi < 41) (hb : gb_blocks b = nI bi) (hfm : gb_microFrom b bi = nI mf) (hff : gb_finalFrom b bi = nI ff) (hfn : gb_finals b = nI ff) (hbt : gb_blockTest b bi = -1) (hf3 : ff ≤ 3 * start) (hp : p ≤ sz)
    (hle : ∀ q, start < q → q < p → gb_leads b q = 0) (hst : p = start → p < sz ∧ (op start = 18 ∨ op start = 19)) (hI : ti_I sz op num mf start p nc0 x0 x)
    (kk : ∀ b' x' pe me fe nc, tb_out sz op num start bi mf ff nc0 b x0 b' x' pe me fe nc → post (mk_S c m e b' x' d)) : lo_translateBlock_153 post (nI start) (nI bi) (nI p) c m e b x d := by
  obtain ⟨hz, ho, hnu⟩ := hC
  have hsz := hcode.1
  obtain ⟨G, L, nc, tk, pk, N, WO, mo, mt, ma, mb, K, wo, hx, hrep, hwo, hst1, hsem, ⟨b0, b1, b2, b3, b4, b5, b6⟩, hfr⟩ := hI
  have hfr0 := hfr.2.1
  have hs6 := hst1.2.2.2.2.2
  have htm : tb_n G L ≤ L := tb_le
  have vb : vp_in (nI bi) 41 := pk_in bi 41 hbi
  have cb : (nI bi).toNatClampNeg = bi := pk_cl bi
  have cp : (nI p).toNatClampNeg = p := pk_cl p
  -- the end without a jump
  have h278 : start < p → lo_translateBlock_278 post (nI start) (nI bi) (nI p) c m e ((gb_blocks b, gb_finals b, gb_blockAt b, gb_leads b, gb_blockCost b, gb_blockNeed b, gb_blockPeak b, gb_microFrom b, gb_finalFrom b, upd (gb_blockNext b) bi (nI p), gb_blockTest b, gb_blockTarget b, gb_microUsed b, gb_finalOperand b)) x d := by
    intro hsp
    refine xi_278 (b := (gb_blocks b, gb_finals b, gb_blockAt b, gb_leads b, gb_blockCost b, gb_blockNeed b, gb_blockPeak b, gb_microFrom b, gb_finalFrom b, upd (gb_blockNext b) bi (nI p), gb_blockTest b, gb_blockTarget b, gb_microUsed b, gb_finalOperand b)) (ff := ff) (pe := p) (nx := p) (test := none) hbi hb hfm hff hfn hsp (by omega) b0 b2 b3 b4 b5 b6 hs6 hf3 (by omega) hx hrep hst1.2.2.1 hst1.1 pk_us (fun _ => hbt) (fun o tg z => by cases z) (te_0 hsem) (fun b' x' Lk k1 k2 k3 k4 k5 k6 k7 k8 k9 => kk b' x' p (mf + Lk) (ff + N.length) nc ?_)
    refine ⟨⟨hsp, hp, by omega, by omega, by omega, by omega, hfr0, b3⟩, hle, fb_trans (b1 := (gb_blocks b, gb_finals b, gb_blockAt b, gb_leads b, gb_blockCost b, gb_blockNeed b, gb_blockPeak b, gb_microFrom b, gb_finalFrom b, upd (gb_blockNext b) bi (nI p), gb_blockTest b, gb_blockTarget b, gb_microUsed b, gb_finalOperand b)) ⟨rfl, rfl, rfl, fun _ _ => rfl, fun i hi => ⟨rfl, rfl, rfl, ?_, rfl, rfl, rfl, rfl⟩⟩ k2, fx_trans (fx_of hx hfr) k3 hfr0, ⟨k4, k5, k6, k7, k8⟩, k9⟩
    exact pk_un hi
  have h187 : start < p → lo_translateBlock_187 post (nI start) (nI bi) (nI p) c m e ((gb_blocks b, gb_finals b, gb_blockAt b, gb_leads b, gb_blockCost b, gb_blockNeed b, gb_blockPeak b, gb_microFrom b, gb_finalFrom b, upd (gb_blockNext b) bi (nI p), gb_blockTest b, gb_blockTarget b, gb_microUsed b, gb_finalOperand b)) x d := fun hsp => br_t rfl (br_t rfl (h278 hsp))
  have h183 : p < sz → (p ≠ start → gb_leads b p = 0) → lo_translateBlock_183 post (nI start) (nI bi) (nI p) c m e ((gb_blocks b, gb_finals b, gb_blockAt b, gb_leads b, gb_blockCost b, gb_blockNeed b, gb_blockPeak b, gb_microFrom b, gb_finalFrom b, upd (gb_blockNext b) bi (nI p), gb_blockTest b, gb_blockTarget b, gb_microUsed b, gb_finalOperand b)) x d := by
    intro hlt hlp
    have vp : vp_in (nI p) 40 := pk_in p 40 (by omega)
    have eo : gc_ops c (nI p).toNatClampNeg = nI (op p) := by rw [cp]; exact ho p hlt
    have hcp := hcode.2 p hlt
    refine br_f (by decide) (And.intro vp (br_c (fun z => And.intro vp (And.intro vb ?_)) (fun z18 => br_f (by decide) (And.intro vp (br_c (fun z => ?_) (fun z19 => ?_))))))
    · -- a jump
      have hop : op p = 18 := (nI_eq (by omega) (by decide)).mp (eo.symm.trans z)
      obtain ⟨j, hj, ej⟩ := hcp.2.2 (Or.inl hop)
      have en : gc_numbers c (nI p).toNatClampNeg = nI j := by rw [cp, hnu p hlt (by omega), ej]
      refine nm_r (e' := upd (upd (gb_blockNext b) bi (nI p)) bi (nI j)) ?_ (nm_r (e' := nI (p + 1)) (nI_1 p) ?_)
      · show upd (upd (gb_blockNext b) bi (nI p)) (nI bi).toNatClampNeg (vp_nar .byte (gc_numbers c (nI p).toNatClampNeg).toInt8.toInt32) = _
        rw [cb, en, pk_vb, wi_b (by omega)]
      · refine xi_278 (b := (gb_blocks b, gb_finals b, gb_blockAt b, gb_leads b, gb_blockCost b, gb_blockNeed b, gb_blockPeak b, gb_microFrom b, gb_finalFrom b, upd (upd (gb_blockNext b) bi (nI p)) bi (nI j), gb_blockTest b, gb_blockTarget b, gb_microUsed b, gb_finalOperand b)) (ff := ff) (pe := p + 1) (nx := j) (test := none) hbi hb hfm hff hfn (by omega) (by omega) b0 (by omega) (by omega) (by omega) (by omega) (by omega) (by omega) hf3 hj hx hrep hst1.2.2.1 hst1.1 pk_us (fun _ => hbt) (fun o tg z => by cases z) (te_18 b1 hlt hop ej hj hs6 hsem) (fun b' x' Lk k1 k2 k3 k4 k5 k6 k7 k8 k9 => kk b' x' (p + 1) (mf + Lk) (ff + N.length) nc ?_)
        refine ⟨⟨by omega, by omega, by omega, by omega, by omega, by omega, hfr0, by omega⟩, fun q q1 q2 => ?_, fb_trans (b1 := (gb_blocks b, gb_finals b, gb_blockAt b, gb_leads b, gb_blockCost b, gb_blockNeed b, gb_blockPeak b, gb_microFrom b, gb_finalFrom b, upd (upd (gb_blockNext b) bi (nI p)) bi (nI j), gb_blockTest b, gb_blockTarget b, gb_microUsed b, gb_finalOperand b)) ⟨rfl, rfl, rfl, fun _ _ => rfl, fun i hi => ⟨rfl, rfl, rfl, ?_, rfl, rfl, rfl, rfl⟩⟩ k2, fx_trans (fx_of hx hfr) k3 hfr0, ⟨k4, k5, k6, k7, k8⟩, k9⟩
        · by_cases e : q = p
          · rw [e]; exact hlp (by omega)
          · exact hle q q1 (by omega)
        · show upd (upd (gb_blockNext b) bi (nI p)) bi (nI j) i = gb_blockNext b i
          rw [pk_un hi, pk_un hi]
    · -- a jump if zero
      have hop : op p = 19 := (nI_eq (by omega) (by decide)).mp (eo.symm.trans z)
      obtain ⟨j, hj, ej⟩ := hcp.2.2 (Or.inr (Or.inl hop))
      have en : gc_numbers c (nI p).toNatClampNeg = nI j := by rw [cp, hnu p hlt (by omega), ej]
      refine xe_take (c := c) (m := m) (e := e) (b := (gb_blocks b, gb_finals b, gb_blockAt b, gb_leads b, gb_blockCost b, gb_blockNeed b, gb_blockPeak b, gb_microFrom b, gb_finalFrom b, upd (gb_blockNext b) bi (nI p), gb_blockTest b, gb_blockTarget b, gb_microUsed b, gb_finalOperand b)) (x := x) (d := d) (by omega) (by omega) hst1.1 hx (fun o1 N1 tk1 x1 l1 l2 l3 l4 ok1 okN1 den1 hx1 => ?_)
      have ho1 : o1 < 32768 := by unfold to_ok at ok1; omega
      refine And.intro vb (nm_r (e' := upd (gb_blockTest b) bi (nI o1)) ?_ (And.intro vp (And.intro vb (nm_r (e' := upd (gb_blockTarget b) bi (nI j)) ?_ (And.intro vb (nm_r (e' := upd (upd (gb_blockNext b) bi (nI p)) bi (nI (p + 1))) ?_ (nm_r (e' := nI (p + 1)) (nI_1 p) ?_)))))))
      · show upd (gb_blockTest b) (nI bi).toNatClampNeg (vp_nar .short (nI o1).toInt16.toInt32) = _
        rw [cb, pk_vs, wi_s ho1]
      · show upd (gb_blockTarget b) (nI bi).toNatClampNeg (vp_nar .byte (gc_numbers c (nI p).toNatClampNeg).toInt8.toInt32) = _
        rw [cb, en, pk_vb, wi_b (by omega)]
      · show upd (upd (gb_blockNext b) bi (nI p)) (nI bi).toNatClampNeg (vp_nar .byte (nI p + 1).toInt8.toInt32) = _
        rw [cb, nI_1, pk_vb, wi_b (by omega)]
      · refine xi_278 (b := (gb_blocks b, gb_finals b, gb_blockAt b, gb_leads b, gb_blockCost b, gb_blockNeed b, gb_blockPeak b, gb_microFrom b, gb_finalFrom b, upd (upd (gb_blockNext b) bi (nI p)) bi (nI (p + 1)), upd (gb_blockTest b) bi (nI o1), upd (gb_blockTarget b) bi (nI j), gb_microUsed b, gb_finalOperand b)) (x := x1) (ff := ff) (pe := p + 1) (nx := p + 1) (test := some (o1, j)) hbi hb hfm hff hfn (by omega) (by omega) b0 (by omega) (by omega) (by omega) (by omega) (by omega) (by omega) hf3 (by omega) hx1 hrep (fun k hk => mi_mono (hst1.2.2.1 k hk) (Nat.le_refl _) l2) okN1 pk_us (fun z => by cases z) (fun o tg z => ?_) (te_19 b1 hlt hop ej hj (by omega) l2 l4 hs6 den1 hsem) (fun b' x' Lk k1 k2 k3 k4 k5 k6 k7 k8 k9 => kk b' x' (p + 1) (mf + Lk) (ff + N1.length) nc ?_)
        · cases z
          exact ⟨pk_us, pk_us, ok1, hj⟩
        · refine ⟨⟨by omega, by omega, by omega, by omega, by omega, by omega, hfr0, by omega⟩, fun q q1 q2 => ?_, fb_trans (b1 := (gb_blocks b, gb_finals b, gb_blockAt b, gb_leads b, gb_blockCost b, gb_blockNeed b, gb_blockPeak b, gb_microFrom b, gb_finalFrom b, upd (upd (gb_blockNext b) bi (nI p)) bi (nI (p + 1)), upd (gb_blockTest b) bi (nI o1), upd (gb_blockTarget b) bi (nI j), gb_microUsed b, gb_finalOperand b)) ⟨rfl, rfl, rfl, fun _ _ => rfl, fun i hi => ⟨rfl, rfl, rfl, ?_, ?_, ?_, rfl, rfl⟩⟩ k2, fx_trans (fx_of hx1 hfr) k3 hfr0, ⟨k4, k5, k6, k7, k8⟩, k9⟩
          · by_cases e : q = p
            · rw [e]; exact hlp (by omega)
            · exact hle q q1 (by omega)
          · show upd (upd (gb_blockNext b) bi (nI p)) bi (nI (p + 1)) i = gb_blockNext b i
            rw [pk_un hi, pk_un hi]
          · exact pk_un hi
          · exact pk_un hi
    · -- neither
      have hn18 : ¬ op p = 18 := fun q => z18 (eo.trans (congrArg nI q))
      have hn19 : ¬ op p = 19 := fun q => z19 (eo.trans (congrArg nI q))
      apply h278
      apply Classical.byContradiction
      intro q
      have := hst (by omega)
      have e2 : p = start := by omega
      rw [e2] at hn18 hn19
      omega
  refine And.intro vb (nm_r (e' := upd (gb_blockNext b) bi (nI p)) ?_ ?_)
  · show upd (gb_blockNext b) (nI bi).toNatClampNeg (vp_nar .byte (nI p).toInt8.toInt32) = _
    rw [cb, pk_vb, wi_b (by omega)]
  · refine pk_le sz p (fun z => h187 ?_) (fun z => pk_eq p start (fun y => h183 z (fun n => absurd y n)) (fun y => And.intro (pk_in p 41 (by omega)) (br_c (fun w => h183 z (fun _ => by rw [← cp]; exact w)) (fun w => h187 (by omega))))) hz
    apply Classical.byContradiction
    intro q
    have := hst (by omega)
    omega
end XJ
section XK
variable {c : ty_C} {m : ty_M} {e : ty_E} {b : ty_B} {x : ty_X} {d : ty_D} {post : SX → Prop} {sz : Nat} {op : Nat → Nat} {num : Nat → Int32} {mf start nc0 bi ff : Nat} {x0 : ty_X}
theorem xk_80 (hcode : am_code sz op num) (hC : cx_R c sz op num) (hbi : bi < 41) (hb : gb_blocks b = nI bi) (hfm : gb_microFrom b bi = nI mf) (hff : gb_finalFrom b bi = nI ff) (hfn : gb_finals b = nI ff) (hbt : gb_blockTest b bi = -1) (hf3 : ff ≤ 3 * start) (hst : start < sz) (hops : is_sim (op start) ∨ op start = 18 ∨ op start = 19)
    (kk : ∀ b' x' pe me fe nc, tb_out sz op num start bi mf ff nc0 b x0 b' x' pe me fe nc → post (mk_S c m e b' x' d)) :
    ∀ dd p x, p + dd = sz → start ≤ p → (∀ q, start < q → q < p → gb_leads b q = 0) → ti_I sz op num mf start p nc0 x0 x → lo_translateBlock_80 post (nI start) (nI bi) (dd + 2) (nI p) 1 c m e b x d := by
  have hsz := hcode.1
  have hC0 := hC
  obtain ⟨hz, ho, hnu⟩ := hC0
  -- the end of the loop
  have fin : ∀ p x, p ≤ sz → (∀ q, start < q → q < p → gb_leads b q = 0) → (p = start → ¬ is_sim (op p)) → ti_I sz op num mf start p nc0 x0 x → lo_translateBlock_153 post (nI start) (nI bi) (nI p) c m e b x d := by
    intro p x hp hle hns hI
    refine xj_153 hcode hC hbi hb hfm hff hfn hbt hf3 hp hle (fun z => ?_) hI kk
    have := hns z
    rw [z] at this
    exact ⟨by omega, hops.resolve_left this⟩
  have exit : ∀ n p x, p ≤ sz → (∀ q, start < q → q < p → gb_leads b q = 0) → (p = start → ¬ is_sim (op p)) → ti_I sz op num mf start p nc0 x0 x → lo_translateBlock_80 post (nI start) (nI bi) (n + 1) (nI p) 0 c m e b x d := by
    intro n p x hp hle hns hI
    exact br_t rfl (fin p x hp hle hns hI)
  intro dd
  induction dd with
  | zero =>
    intro p x hd hp hle hI
    refine br_f (by decide) (br_t ?_ (fin p x (by omega) hle (fun z => by omega) hI))
    show gc_size c ≤ _
    rw [hz]; exact nI_le (by omega) (by omega)
  | succ dd ih =>
    intro p x hd hp hle hI
    have hlt : p < sz := by omega
    have cp : (nI p).toNatClampNeg = p := pk_cl p
    have vp : vp_in (nI p) 40 := pk_in p 40 (by omega)
    have hcp := hcode.2 p hlt
    have h123 : is_sim (op p) → (p ≠ start → gb_leads b p = 0) → lo_translateBlock_123 post (fun y0 y1 u => wX_translateBlock_80 post (nI start) (nI bi) (dd + 2) y0 y1 u.1 u.2.1 u.2.2.1 u.2.2.2.1 u.2.2.2.2.1 u.2.2.2.2.2.1 u.2.2.2.2.2.2.1 u.2.2.2.2.2.2.2.1 u.2.2.2.2.2.2.2.2.1 u.2.2.2.2.2.2.2.2.2.1 u.2.2.2.2.2.2.2.2.2.2.1 u.2.2.2.2.2.2.2.2.2.2.2.1 u.2.2.2.2.2.2.2.2.2.2.2.2.1 u.2.2.2.2.2.2.2.2.2.2.2.2.2.1 u.2.2.2.2.2.2.2.2.2.2.2.2.2.2.1 u.2.2.2.2.2.2.2.2.2.2.2.2.2.2.2.1 u.2.2.2.2.2.2.2.2.2.2.2.2.2.2.2.2.1 u.2.2.2.2.2.2.2.2.2.2.2.2.2.2.2.2.2.1 u.2.2.2.2.2.2.2.2.2.2.2.2.2.2.2.2.2.2.1 u.2.2.2.2.2.2.2.2.2.2.2.2.2.2.2.2.2.2.2.1 u.2.2.2.2.2.2.2.2.2.2.2.2.2.2.2.2.2.2.2.2.1 u.2.2.2.2.2.2.2.2.2.2.2.2.2.2.2.2.2.2.2.2.2.1 u.2.2.2.2.2.2.2.2.2.2.2.2.2.2.2.2.2.2.2.2.2.2.1 u.2.2.2.2.2.2.2.2.2.2.2.2.2.2.2.2.2.2.2.2.2.2.2.1 u.2.2.2.2.2.2.2.2.2.2.2.2.2.2.2.2.2.2.2.2.2.2.2.2.1 u.2.2.2.2.2.2.2.2.2.2.2.2.2.2.2.2.2.2.2.2.2.2.2.2.2.1 u.2.2.2.2.2.2.2.2.2.2.2.2.2.2.2.2.2.2.2.2.2.2.2.2.2.2.1 u.2.2.2.2.2.2.2.2.2.2.2.2.2.2.2.2.2.2.2.2.2.2.2.2.2.2.2.1 u.2.2.2.2.2.2.2.2.2.2.2.2.2.2.2.2.2.2.2.2.2.2.2.2.2.2.2.2.1 u.2.2.2.2.2.2.2.2.2.2.2.2.2.2.2.2.2.2.2.2.2.2.2.2.2.2.2.2.2.1 u.2.2.2.2.2.2.2.2.2.2.2.2.2.2.2.2.2.2.2.2.2.2.2.2.2.2.2.2.2.2.1 u.2.2.2.2.2.2.2.2.2.2.2.2.2.2.2.2.2.2.2.2.2.2.2.2.2.2.2.2.2.2.2.1 u.2.2.2.2.2.2.2.2.2.2.2.2.2.2.2.2.2.2.2.2.2.2.2.2.2.2.2.2.2.2.2.2.1 u.2.2.2.2.2.2.2.2.2.2.2.2.2.2.2.2.2.2.2.2.2.2.2.2.2.2.2.2.2.2.2.2.2.1 u.2.2.2.2.2.2.2.2.2.2.2.2.2.2.2.2.2.2.2.2.2.2.2.2.2.2.2.2.2.2.2.2.2.2.1 u.2.2.2.2.2.2.2.2.2.2.2.2.2.2.2.2.2.2.2.2.2.2.2.2.2.2.2.2.2.2.2.2.2.2.2.1 u.2.2.2.2.2.2.2.2.2.2.2.2.2.2.2.2.2.2.2.2.2.2.2.2.2.2.2.2.2.2.2.2.2.2.2.2.1 u.2.2.2.2.2.2.2.2.2.2.2.2.2.2.2.2.2.2.2.2.2.2.2.2.2.2.2.2.2.2.2.2.2.2.2.2.2.1 u.2.2.2.2.2.2.2.2.2.2.2.2.2.2.2.2.2.2.2.2.2.2.2.2.2.2.2.2.2.2.2.2.2.2.2.2.2.2.1 u.2.2.2.2.2.2.2.2.2.2.2.2.2.2.2.2.2.2.2.2.2.2.2.2.2.2.2.2.2.2.2.2.2.2.2.2.2.2.2.1 u.2.2.2.2.2.2.2.2.2.2.2.2.2.2.2.2.2.2.2.2.2.2.2.2.2.2.2.2.2.2.2.2.2.2.2.2.2.2.2.2.1 u.2.2.2.2.2.2.2.2.2.2.2.2.2.2.2.2.2.2.2.2.2.2.2.2.2.2.2.2.2.2.2.2.2.2.2.2.2.2.2.2.2.1 u.2.2.2.2.2.2.2.2.2.2.2.2.2.2.2.2.2.2.2.2.2.2.2.2.2.2.2.2.2.2.2.2.2.2.2.2.2.2.2.2.2.2.1 u.2.2.2.2.2.2.2.2.2.2.2.2.2.2.2.2.2.2.2.2.2.2.2.2.2.2.2.2.2.2.2.2.2.2.2.2.2.2.2.2.2.2.2.1 u.2.2.2.2.2.2.2.2.2.2.2.2.2.2.2.2.2.2.2.2.2.2.2.2.2.2.2.2.2.2.2.2.2.2.2.2.2.2.2.2.2.2.2.2.1 u.2.2.2.2.2.2.2.2.2.2.2.2.2.2.2.2.2.2.2.2.2.2.2.2.2.2.2.2.2.2.2.2.2.2.2.2.2.2.2.2.2.2.2.2.2.1 u.2.2.2.2.2.2.2.2.2.2.2.2.2.2.2.2.2.2.2.2.2.2.2.2.2.2.2.2.2.2.2.2.2.2.2.2.2.2.2.2.2.2.2.2.2.2.1 u.2.2.2.2.2.2.2.2.2.2.2.2.2.2.2.2.2.2.2.2.2.2.2.2.2.2.2.2.2.2.2.2.2.2.2.2.2.2.2.2.2.2.2.2.2.2.2.1 u.2.2.2.2.2.2.2.2.2.2.2.2.2.2.2.2.2.2.2.2.2.2.2.2.2.2.2.2.2.2.2.2.2.2.2.2.2.2.2.2.2.2.2.2.2.2.2.2.1 u.2.2.2.2.2.2.2.2.2.2.2.2.2.2.2.2.2.2.2.2.2.2.2.2.2.2.2.2.2.2.2.2.2.2.2.2.2.2.2.2.2.2.2.2.2.2.2.2.2.1 u.2.2.2.2.2.2.2.2.2.2.2.2.2.2.2.2.2.2.2.2.2.2.2.2.2.2.2.2.2.2.2.2.2.2.2.2.2.2.2.2.2.2.2.2.2.2.2.2.2.2.1 u.2.2.2.2.2.2.2.2.2.2.2.2.2.2.2.2.2.2.2.2.2.2.2.2.2.2.2.2.2.2.2.2.2.2.2.2.2.2.2.2.2.2.2.2.2.2.2.2.2.2.2.1 u.2.2.2.2.2.2.2.2.2.2.2.2.2.2.2.2.2.2.2.2.2.2.2.2.2.2.2.2.2.2.2.2.2.2.2.2.2.2.2.2.2.2.2.2.2.2.2.2.2.2.2.2) (nI start) (nI bi) (nI p) (nI (op p)) c m e b x d := by
      intro hsi hlp
      refine br_f (by decide) (And.intro vp ?_)
      refine xf_step (c := c) (m := m) (e := e) (b := b) (x := x) (d := d) (n := gc_numbers c (nI p).toNatClampNeg) hbi hb hfm hsi hcp.2 (fun z => by rw [cp]; exact hnu p hlt (by omega)) hlt (by omega) hI (fun x' hI' => nm_r (e' := nI (p + 1)) (nI_1 p) ?_)
      exact ih (p + 1) x' (by omega) (by omega) (fun q q1 q2 => by
        by_cases e : q = p
        · rw [e]; exact hlp (by omega)
        · exact hle q q1 (by omega)) hI'
    refine br_f (by decide) (br_f ?_ (And.intro vp (nm_r (e' := nI (op p)) ?_ ?_)))
    · show ¬ gc_size c ≤ _
      rw [hz]; exact nI_ge (by omega) (by omega)
    · show gc_ops c (nI p).toNatClampNeg = _
      rw [cp]; exact ho p hlt
    · refine xw_simple hcp.1 (fun hsi => br_f (by decide) (pk_eq p start (fun z => h123 hsi (fun n => absurd z n)) (fun z => And.intro (pk_in p 41 (by omega)) (br_c (fun w => h123 hsi (fun _ => by rw [← cp]; exact w)) (fun w => ?_))))) (fun hns => br_t rfl ?_)
      · exact br_t rfl (exit (dd + 1) p x (by omega) hle (fun y => absurd y z) hI)
      · exact br_t rfl (exit (dd + 1) p x (by omega) hle (fun _ => hns) hI)
end XK
end
section
theorem nar_s1 : vp_nar .short (-1) = -1 := by rw [vp_nar_short]; decide
theorem nar_y1 : vp_nar .byte (-1) = -1 := by rw [vp_nar_byte]; decide
section XL
variable {c : ty_C} {m : ty_M} {e : ty_E} {b : ty_B} {x : ty_X} {d : ty_D} {post : SX → Prop} {sz : Nat} {op : Nat → Nat} {num : Nat → Int32} {mf start nc0 bi ff : Nat}
theorem xl_56 {x1 x2 : Int32} (kk : ∀ wo, (∀ j, j < 64 → wo j = -1) → ∃ n, lo_translateBlock_80 post x1 x2 n x1 1 c m e b ((gx_micros x, gx_constants x, gx_newSize x, gx_taken x, gx_peak x, gx_temps x, gx_microOp x, gx_microTarget x, gx_microA x, gx_microB x, gx_constant x, gx_newStack x, wo)) d) :
    ∀ dd i wo, i + dd = 64 → (∀ j, j < i → wo j = -1) → lo_translateBlock_56 post x1 x2 (dd + 1) (nI i) c m e b ((gx_micros x, gx_constants x, gx_newSize x, gx_taken x, gx_peak x, gx_temps x, gx_microOp x, gx_microTarget x, gx_microA x, gx_microB x, gx_constant x, gx_newStack x, wo)) d := by
  intro dd
  induction dd with
  | zero =>
    intro i wo hi h
    exact br_t (nI_le (a := 64) (by omega) (by omega)) (kk wo (fun j hj => h j (by omega)))
  | succ dd ih =>
    intro i wo hi h
    refine br_f (nI_ge (b := 64) (by omega) (by decide)) (And.intro (pk_in i 64 (by omega)) (nm_r (e' := upd wo i (-1)) ?_ (nm_r (e' := nI (i + 1)) (nI_1 i) ?_)))
    · show upd wo (nI i).toNatClampNeg (vp_nar .short (-1)) = _
      rw [pk_cl i, nar_s1]
    · refine ih (i + 1) (upd wo i (-1)) (by omega) (fun j hj => ?_)
      by_cases e : j = i
      · subst e; exact pk_us
      · rw [pk_un e]; exact h j (by omega)
theorem xl_block (hcode : am_code sz op num) (hC : cx_R c sz op num) (hbi : bi < 41) (hb : gb_blocks b = nI bi) (hfn : gb_finals b = nI ff) (hmi : gx_micros x = nI mf) (hnc : gx_constants x = nI nc0) (hm : mf ≤ start) (hn : nc0 ≤ start) (hf3 : ff ≤ 3 * start) (hst : start < sz) (hops : is_sim (op start) ∨ op start = 18 ∨ op start = 19)
    (kk : ∀ b' x' pe me fe nc, tb_out sz op num start bi mf ff nc0 b x b' x' pe me fe nc → post (mk_S c m e b' x' d)) : wpX_translateBlock post (mk_S c m e b x d) (nI start) := by
  have hsz := hcode.1
  have cb : (gb_blocks b).toNatClampNeg = bi := pk_cl bi hb
  refine And.intro (pk_in bi 42 (by omega) hb) (nm_r (e' := upd (gb_microFrom b) bi (nI mf)) ?_ (And.intro (pk_in bi 42 (by omega) hb) (nm_r (e' := upd (gb_finalFrom b) bi (nI ff)) ?_ (And.intro (pk_in bi 41 hbi hb) (nm_r (e' := upd (gb_blockTest b) bi (-1)) ?_ ⟨65, ?_⟩)))))
  · show upd (gb_microFrom b) (gb_blocks b).toNatClampNeg (vp_nar .short (gx_micros x).toInt16.toInt32) = _
    rw [cb, hmi, pk_vs, wi_s (by omega)]
  · show upd (gb_finalFrom b) (gb_blocks b).toNatClampNeg (vp_nar .short (gb_finals b).toInt16.toInt32) = _
    rw [cb, hfn, pk_vs, wi_s (by omega)]
  · show upd (gb_blockTest b) (gb_blocks b).toNatClampNeg (vp_nar .short (-1)) = _
    rw [cb, nar_s1]
  · refine xl_56 (c := c) (m := m) (e := e) (b := (gb_blocks b, gb_finals b, gb_blockAt b, gb_leads b, gb_blockCost b, gb_blockNeed b, gb_blockPeak b, upd (gb_microFrom b) bi (nI mf), upd (gb_finalFrom b) bi (nI ff), gb_blockNext b, upd (gb_blockTest b) bi (-1), gb_blockTarget b, gb_microUsed b, gb_finalOperand b)) (x := (gx_micros x, gx_constants x, 0, 0, 0, 0, gx_microOp x, gx_microTarget x, gx_microA x, gx_microB x, gx_constant x, gx_newStack x, gx_wordOperand x)) (d := d) (post := post) (x1 := nI start) (x2 := gb_blocks b) (fun wo hwo => ⟨sz - start + 2, ?_⟩) 64 0 (gx_wordOperand x) (by omega) (fun j hj => absurd hj (Nat.not_lt_zero _))
    · refine (congrArg (fun z => lo_translateBlock_80 post (nI start) z (sz - start + 2) (nI start) 1 c m e ((gb_blocks b, gb_finals b, gb_blockAt b, gb_leads b, gb_blockCost b, gb_blockNeed b, gb_blockPeak b, upd (gb_microFrom b) bi (nI mf), upd (gb_finalFrom b) bi (nI ff), gb_blockNext b, upd (gb_blockTest b) bi (-1), gb_blockTarget b, gb_microUsed b, gb_finalOperand b)) ((gx_micros x, gx_constants x, 0, 0, 0, 0, gx_microOp x, gx_microTarget x, gx_microA x, gx_microB x, gx_constant x, gx_newStack x, wo)) d) hb).mpr ?_
      show lo_translateBlock_80 post (nI start) (nI bi) (sz - start + 2) (nI start) 1 c m e ((gb_blocks b, gb_finals b, gb_blockAt b, gb_leads b, gb_blockCost b, gb_blockNeed b, gb_blockPeak b, upd (gb_microFrom b) bi (nI mf), upd (gb_finalFrom b) bi (nI ff), gb_blockNext b, upd (gb_blockTest b) bi (-1), gb_blockTarget b, gb_microUsed b, gb_finalOperand b)) ((gx_micros x, gx_constants x, 0, 0, 0, 0, gx_microOp x, gx_microTarget x, gx_microA x, gx_microB x, gx_constant x, gx_newStack x, wo)) d
      refine xk_80 (b := (gb_blocks b, gb_finals b, gb_blockAt b, gb_leads b, gb_blockCost b, gb_blockNeed b, gb_blockPeak b, upd (gb_microFrom b) bi (nI mf), upd (gb_finalFrom b) bi (nI ff), gb_blockNext b, upd (gb_blockTest b) bi (-1), gb_blockTarget b, gb_microUsed b, gb_finalOperand b)) (x0 := x) (mf := mf) (nc0 := nc0) (ff := ff) hcode hC hbi hb pk_us pk_us hfn pk_us hf3 hst hops (fun b' x' pe me fe nc ho => kk b' x' pe me fe nc ?_) (sz - start) start ((gx_micros x, gx_constants x, 0, 0, 0, 0, gx_microOp x, gx_microTarget x, gx_microA x, gx_microB x, gx_constant x, gx_newStack x, wo)) (by omega) (Nat.le_refl _) (fun q q1 q2 => by omega) ?_
      · obtain ⟨o1, o2, o3, o4, o5, o6⟩ := ho
        refine ⟨o1, o2, fb_trans (b1 := (gb_blocks b, gb_finals b, gb_blockAt b, gb_leads b, gb_blockCost b, gb_blockNeed b, gb_blockPeak b, upd (gb_microFrom b) bi (nI mf), upd (gb_finalFrom b) bi (nI ff), gb_blockNext b, upd (gb_blockTest b) bi (-1), gb_blockTarget b, gb_microUsed b, gb_finalOperand b)) ⟨rfl, rfl, rfl, fun _ _ => rfl, fun i hi => ⟨rfl, rfl, rfl, rfl, ?_, rfl, ?_, ?_⟩⟩ o3, o4, o5, o6⟩
        · exact pk_un hi
        · exact pk_un hi
        · exact pk_un hi
      · refine ⟨fun _ => (0, 0, 0, 0), 0, nc0, 0, 0, [], fun _ => none, gx_microOp x, gx_microTarget x, gx_microA x, gx_microB x, gx_constant x, wo, ⟨hmi, hnc, rfl, rfl, rfl, rfl, trivial, rfl, rfl, rfl, rfl, rfl, rfl⟩, fun k hk => absurd hk (Nat.not_lt_zero _), fun n hn => ⟨fun _ => hwo n hn, fun o ho => (by cases ho)⟩, ⟨fun o ho => absurd ho List.not_mem_nil, fun n o _ ho => (by cases ho), fun k hk => absurd hk (Nat.not_lt_zero _), rfl, fun n _ _ k hk => absurd hk (Nat.not_lt_zero _), Nat.zero_le _⟩, ?_, ⟨hm, Nat.le_refl _, Nat.zero_le _, hn, Nat.zero_le _, Nat.zero_le _, Nat.zero_le _⟩, fun i _ => ⟨rfl, rfl, rfl, rfl⟩, Nat.le_refl _, fun i _ => rfl⟩
        intro K' hag S0 R I O W0 h1 h2
        refine ⟨fun _ => 0, S0, W0, ⟨rfl, fun k hk => absurd hk (Nat.not_lt_zero _), fun n _ => ⟨fun _ => rfl, fun o ho => (by cases ho)⟩, fun n _ => rfl⟩, ?_⟩
        rw [Nat.sub_self]; rfl
theorem xl_38 (hcode : am_code sz op num) (hC : cx_R c sz op num) (ba : Nat → Int32) (kk : ∀ le, post (mk_S c m e ((gb_blocks b, gb_finals b, ba, le, gb_blockCost b, gb_blockNeed b, gb_blockPeak b, gb_microFrom b, gb_finalFrom b, gb_blockNext b, gb_blockTest b, gb_blockTarget b, gb_microUsed b, gb_finalOperand b)) x d)) :
    ∀ dd p le, p + dd = sz → lo_findLeaders_38 post (dd + 1) (nI p) c m e ((gb_blocks b, gb_finals b, ba, le, gb_blockCost b, gb_blockNeed b, gb_blockPeak b, gb_microFrom b, gb_finalFrom b, gb_blockNext b, gb_blockTest b, gb_blockTarget b, gb_microUsed b, gb_finalOperand b)) x d := by
  have hsz := hcode.1
  obtain ⟨hz, ho, hnu⟩ := hC
  intro dd
  induction dd with
  | zero =>
    intro p le hp
    refine br_t ?_ (kk le)
    show gc_size c ≤ _
    rw [hz]; exact nI_le (by omega) (by omega)
  | succ dd ih =>
    intro p le hp
    have hlt : p < sz := by omega
    have cp : (nI p).toNatClampNeg = p := pk_cl p
    have vp : vp_in (nI p) 40 := pk_in p 40 (by omega)
    have hcp := hcode.2 p hlt
    have h83 : ∀ le, lo_findLeaders_83 post (fun y u => wX_findLeaders_38 post u.1 u.2.1 u.2.2.1 u.2.2.2.1 u.2.2.2.2.1 u.2.2.2.2.2.1 u.2.2.2.2.2.2.1 u.2.2.2.2.2.2.2.1 u.2.2.2.2.2.2.2.2.1 u.2.2.2.2.2.2.2.2.2.1 u.2.2.2.2.2.2.2.2.2.2.1 u.2.2.2.2.2.2.2.2.2.2.2.1 u.2.2.2.2.2.2.2.2.2.2.2.2.1 u.2.2.2.2.2.2.2.2.2.2.2.2.2.1 u.2.2.2.2.2.2.2.2.2.2.2.2.2.2.1 u.2.2.2.2.2.2.2.2.2.2.2.2.2.2.2.1 u.2.2.2.2.2.2.2.2.2.2.2.2.2.2.2.2.1 u.2.2.2.2.2.2.2.2.2.2.2.2.2.2.2.2.2.1 u.2.2.2.2.2.2.2.2.2.2.2.2.2.2.2.2.2.2.1 (dd + 1) y u.2.2.2.2.2.2.2.2.2.2.2.2.2.2.2.2.2.2.2.1 u.2.2.2.2.2.2.2.2.2.2.2.2.2.2.2.2.2.2.2.2.1 u.2.2.2.2.2.2.2.2.2.2.2.2.2.2.2.2.2.2.2.2.2.1 u.2.2.2.2.2.2.2.2.2.2.2.2.2.2.2.2.2.2.2.2.2.2.1 u.2.2.2.2.2.2.2.2.2.2.2.2.2.2.2.2.2.2.2.2.2.2.2.1 u.2.2.2.2.2.2.2.2.2.2.2.2.2.2.2.2.2.2.2.2.2.2.2.2.1 u.2.2.2.2.2.2.2.2.2.2.2.2.2.2.2.2.2.2.2.2.2.2.2.2.2.1 u.2.2.2.2.2.2.2.2.2.2.2.2.2.2.2.2.2.2.2.2.2.2.2.2.2.2.1 u.2.2.2.2.2.2.2.2.2.2.2.2.2.2.2.2.2.2.2.2.2.2.2.2.2.2.2.1 u.2.2.2.2.2.2.2.2.2.2.2.2.2.2.2.2.2.2.2.2.2.2.2.2.2.2.2.2.1 u.2.2.2.2.2.2.2.2.2.2.2.2.2.2.2.2.2.2.2.2.2.2.2.2.2.2.2.2.2.1 u.2.2.2.2.2.2.2.2.2.2.2.2.2.2.2.2.2.2.2.2.2.2.2.2.2.2.2.2.2.2.1 u.2.2.2.2.2.2.2.2.2.2.2.2.2.2.2.2.2.2.2.2.2.2.2.2.2.2.2.2.2.2.2.1 u.2.2.2.2.2.2.2.2.2.2.2.2.2.2.2.2.2.2.2.2.2.2.2.2.2.2.2.2.2.2.2.2.1 u.2.2.2.2.2.2.2.2.2.2.2.2.2.2.2.2.2.2.2.2.2.2.2.2.2.2.2.2.2.2.2.2.2.1 u.2.2.2.2.2.2.2.2.2.2.2.2.2.2.2.2.2.2.2.2.2.2.2.2.2.2.2.2.2.2.2.2.2.2.1 u.2.2.2.2.2.2.2.2.2.2.2.2.2.2.2.2.2.2.2.2.2.2.2.2.2.2.2.2.2.2.2.2.2.2.2.1 u.2.2.2.2.2.2.2.2.2.2.2.2.2.2.2.2.2.2.2.2.2.2.2.2.2.2.2.2.2.2.2.2.2.2.2.2.1 u.2.2.2.2.2.2.2.2.2.2.2.2.2.2.2.2.2.2.2.2.2.2.2.2.2.2.2.2.2.2.2.2.2.2.2.2.2.1 u.2.2.2.2.2.2.2.2.2.2.2.2.2.2.2.2.2.2.2.2.2.2.2.2.2.2.2.2.2.2.2.2.2.2.2.2.2.2.1 u.2.2.2.2.2.2.2.2.2.2.2.2.2.2.2.2.2.2.2.2.2.2.2.2.2.2.2.2.2.2.2.2.2.2.2.2.2.2.2.1 u.2.2.2.2.2.2.2.2.2.2.2.2.2.2.2.2.2.2.2.2.2.2.2.2.2.2.2.2.2.2.2.2.2.2.2.2.2.2.2.2.1 u.2.2.2.2.2.2.2.2.2.2.2.2.2.2.2.2.2.2.2.2.2.2.2.2.2.2.2.2.2.2.2.2.2.2.2.2.2.2.2.2.2.1 u.2.2.2.2.2.2.2.2.2.2.2.2.2.2.2.2.2.2.2.2.2.2.2.2.2.2.2.2.2.2.2.2.2.2.2.2.2.2.2.2.2.2.1 u.2.2.2.2.2.2.2.2.2.2.2.2.2.2.2.2.2.2.2.2.2.2.2.2.2.2.2.2.2.2.2.2.2.2.2.2.2.2.2.2.2.2.2.1 u.2.2.2.2.2.2.2.2.2.2.2.2.2.2.2.2.2.2.2.2.2.2.2.2.2.2.2.2.2.2.2.2.2.2.2.2.2.2.2.2.2.2.2.2.1 u.2.2.2.2.2.2.2.2.2.2.2.2.2.2.2.2.2.2.2.2.2.2.2.2.2.2.2.2.2.2.2.2.2.2.2.2.2.2.2.2.2.2.2.2.2.1 u.2.2.2.2.2.2.2.2.2.2.2.2.2.2.2.2.2.2.2.2.2.2.2.2.2.2.2.2.2.2.2.2.2.2.2.2.2.2.2.2.2.2.2.2.2.2.1 u.2.2.2.2.2.2.2.2.2.2.2.2.2.2.2.2.2.2.2.2.2.2.2.2.2.2.2.2.2.2.2.2.2.2.2.2.2.2.2.2.2.2.2.2.2.2.2.1 u.2.2.2.2.2.2.2.2.2.2.2.2.2.2.2.2.2.2.2.2.2.2.2.2.2.2.2.2.2.2.2.2.2.2.2.2.2.2.2.2.2.2.2.2.2.2.2.2.1 u.2.2.2.2.2.2.2.2.2.2.2.2.2.2.2.2.2.2.2.2.2.2.2.2.2.2.2.2.2.2.2.2.2.2.2.2.2.2.2.2.2.2.2.2.2.2.2.2.2.1 u.2.2.2.2.2.2.2.2.2.2.2.2.2.2.2.2.2.2.2.2.2.2.2.2.2.2.2.2.2.2.2.2.2.2.2.2.2.2.2.2.2.2.2.2.2.2.2.2.2.2.1 u.2.2.2.2.2.2.2.2.2.2.2.2.2.2.2.2.2.2.2.2.2.2.2.2.2.2.2.2.2.2.2.2.2.2.2.2.2.2.2.2.2.2.2.2.2.2.2.2.2.2.2.1 u.2.2.2.2.2.2.2.2.2.2.2.2.2.2.2.2.2.2.2.2.2.2.2.2.2.2.2.2.2.2.2.2.2.2.2.2.2.2.2.2.2.2.2.2.2.2.2.2.2.2.2.2) (nI p) (nI (op p)) c m e ((gb_blocks b, gb_finals b, ba, le, gb_blockCost b, gb_blockNeed b, gb_blockPeak b, gb_microFrom b, gb_finalFrom b, gb_blockNext b, gb_blockTest b, gb_blockTarget b, gb_microUsed b, gb_finalOperand b)) x d := by
      intro le
      unfold lo_findLeaders_83 wX_findLeaders_83
      refine xw_simple hcp.1 (fun hsi => br_f (by decide) (nm_r (e' := nI (p + 1)) (nI_1 p) (ih (p + 1) le (by omega)))) (fun hns => br_t rfl (And.intro (pk_in (p + 1) 41 (by omega) (nI_1 p)) (nm_r (e' := upd le (p + 1) 1) ?_ (nm_r (e' := nI (p + 1)) (nI_1 p) (ih (p + 1) (upd le (p + 1) 1) (by omega))))))
      show upd le (nI p + 1).toNatClampNeg (vp_nar .boolean 1) = _
      rw [nI_1, pk_cl (p + 1)]; rfl
    have h71 : (op p = 18 ∨ op p = 19 ∨ op p = 20) → ∀ le, lo_findLeaders_71 post (fun y u => wX_findLeaders_38 post u.1 u.2.1 u.2.2.1 u.2.2.2.1 u.2.2.2.2.1 u.2.2.2.2.2.1 u.2.2.2.2.2.2.1 u.2.2.2.2.2.2.2.1 u.2.2.2.2.2.2.2.2.1 u.2.2.2.2.2.2.2.2.2.1 u.2.2.2.2.2.2.2.2.2.2.1 u.2.2.2.2.2.2.2.2.2.2.2.1 u.2.2.2.2.2.2.2.2.2.2.2.2.1 u.2.2.2.2.2.2.2.2.2.2.2.2.2.1 u.2.2.2.2.2.2.2.2.2.2.2.2.2.2.1 u.2.2.2.2.2.2.2.2.2.2.2.2.2.2.2.1 u.2.2.2.2.2.2.2.2.2.2.2.2.2.2.2.2.1 u.2.2.2.2.2.2.2.2.2.2.2.2.2.2.2.2.2.1 u.2.2.2.2.2.2.2.2.2.2.2.2.2.2.2.2.2.2.1 (dd + 1) y u.2.2.2.2.2.2.2.2.2.2.2.2.2.2.2.2.2.2.2.1 u.2.2.2.2.2.2.2.2.2.2.2.2.2.2.2.2.2.2.2.2.1 u.2.2.2.2.2.2.2.2.2.2.2.2.2.2.2.2.2.2.2.2.2.1 u.2.2.2.2.2.2.2.2.2.2.2.2.2.2.2.2.2.2.2.2.2.2.1 u.2.2.2.2.2.2.2.2.2.2.2.2.2.2.2.2.2.2.2.2.2.2.2.1 u.2.2.2.2.2.2.2.2.2.2.2.2.2.2.2.2.2.2.2.2.2.2.2.2.1 u.2.2.2.2.2.2.2.2.2.2.2.2.2.2.2.2.2.2.2.2.2.2.2.2.2.1 u.2.2.2.2.2.2.2.2.2.2.2.2.2.2.2.2.2.2.2.2.2.2.2.2.2.2.1 u.2.2.2.2.2.2.2.2.2.2.2.2.2.2.2.2.2.2.2.2.2.2.2.2.2.2.2.1 u.2.2.2.2.2.2.2.2.2.2.2.2.2.2.2.2.2.2.2.2.2.2.2.2.2.2.2.2.1 u.2.2.2.2.2.2.2.2.2.2.2.2.2.2.2.2.2.2.2.2.2.2.2.2.2.2.2.2.2.1 u.2.2.2.2.2.2.2.2.2.2.2.2.2.2.2.2.2.2.2.2.2.2.2.2.2.2.2.2.2.2.1 u.2.2.2.2.2.2.2.2.2.2.2.2.2.2.2.2.2.2.2.2.2.2.2.2.2.2.2.2.2.2.2.1 u.2.2.2.2.2.2.2.2.2.2.2.2.2.2.2.2.2.2.2.2.2.2.2.2.2.2.2.2.2.2.2.2.1 u.2.2.2.2.2.2.2.2.2.2.2.2.2.2.2.2.2.2.2.2.2.2.2.2.2.2.2.2.2.2.2.2.2.1 u.2.2.2.2.2.2.2.2.2.2.2.2.2.2.2.2.2.2.2.2.2.2.2.2.2.2.2.2.2.2.2.2.2.2.1 u.2.2.2.2.2.2.2.2.2.2.2.2.2.2.2.2.2.2.2.2.2.2.2.2.2.2.2.2.2.2.2.2.2.2.2.1 u.2.2.2.2.2.2.2.2.2.2.2.2.2.2.2.2.2.2.2.2.2.2.2.2.2.2.2.2.2.2.2.2.2.2.2.2.1 u.2.2.2.2.2.2.2.2.2.2.2.2.2.2.2.2.2.2.2.2.2.2.2.2.2.2.2.2.2.2.2.2.2.2.2.2.2.1 u.2.2.2.2.2.2.2.2.2.2.2.2.2.2.2.2.2.2.2.2.2.2.2.2.2.2.2.2.2.2.2.2.2.2.2.2.2.2.1 u.2.2.2.2.2.2.2.2.2.2.2.2.2.2.2.2.2.2.2.2.2.2.2.2.2.2.2.2.2.2.2.2.2.2.2.2.2.2.2.1 u.2.2.2.2.2.2.2.2.2.2.2.2.2.2.2.2.2.2.2.2.2.2.2.2.2.2.2.2.2.2.2.2.2.2.2.2.2.2.2.2.1 u.2.2.2.2.2.2.2.2.2.2.2.2.2.2.2.2.2.2.2.2.2.2.2.2.2.2.2.2.2.2.2.2.2.2.2.2.2.2.2.2.2.1 u.2.2.2.2.2.2.2.2.2.2.2.2.2.2.2.2.2.2.2.2.2.2.2.2.2.2.2.2.2.2.2.2.2.2.2.2.2.2.2.2.2.2.1 u.2.2.2.2.2.2.2.2.2.2.2.2.2.2.2.2.2.2.2.2.2.2.2.2.2.2.2.2.2.2.2.2.2.2.2.2.2.2.2.2.2.2.2.1 u.2.2.2.2.2.2.2.2.2.2.2.2.2.2.2.2.2.2.2.2.2.2.2.2.2.2.2.2.2.2.2.2.2.2.2.2.2.2.2.2.2.2.2.2.1 u.2.2.2.2.2.2.2.2.2.2.2.2.2.2.2.2.2.2.2.2.2.2.2.2.2.2.2.2.2.2.2.2.2.2.2.2.2.2.2.2.2.2.2.2.2.1 u.2.2.2.2.2.2.2.2.2.2.2.2.2.2.2.2.2.2.2.2.2.2.2.2.2.2.2.2.2.2.2.2.2.2.2.2.2.2.2.2.2.2.2.2.2.2.1 u.2.2.2.2.2.2.2.2.2.2.2.2.2.2.2.2.2.2.2.2.2.2.2.2.2.2.2.2.2.2.2.2.2.2.2.2.2.2.2.2.2.2.2.2.2.2.2.1 u.2.2.2.2.2.2.2.2.2.2.2.2.2.2.2.2.2.2.2.2.2.2.2.2.2.2.2.2.2.2.2.2.2.2.2.2.2.2.2.2.2.2.2.2.2.2.2.2.1 u.2.2.2.2.2.2.2.2.2.2.2.2.2.2.2.2.2.2.2.2.2.2.2.2.2.2.2.2.2.2.2.2.2.2.2.2.2.2.2.2.2.2.2.2.2.2.2.2.2.1 u.2.2.2.2.2.2.2.2.2.2.2.2.2.2.2.2.2.2.2.2.2.2.2.2.2.2.2.2.2.2.2.2.2.2.2.2.2.2.2.2.2.2.2.2.2.2.2.2.2.2.1 u.2.2.2.2.2.2.2.2.2.2.2.2.2.2.2.2.2.2.2.2.2.2.2.2.2.2.2.2.2.2.2.2.2.2.2.2.2.2.2.2.2.2.2.2.2.2.2.2.2.2.2.1 u.2.2.2.2.2.2.2.2.2.2.2.2.2.2.2.2.2.2.2.2.2.2.2.2.2.2.2.2.2.2.2.2.2.2.2.2.2.2.2.2.2.2.2.2.2.2.2.2.2.2.2.2) (nI p) (nI (op p)) c m e ((gb_blocks b, gb_finals b, ba, le, gb_blockCost b, gb_blockNeed b, gb_blockPeak b, gb_microFrom b, gb_finalFrom b, gb_blockNext b, gb_blockTest b, gb_blockTarget b, gb_microUsed b, gb_finalOperand b)) x d := by
      intro hj le
      obtain ⟨j, hj1, ej⟩ := hcp.2.2 hj
      have en : gc_numbers c (nI p).toNatClampNeg = nI j := by rw [cp, hnu p hlt (by omega), ej]
      have v2 : vp_in (gc_numbers c (nI p).toNatClampNeg) 41 := by rw [en]; exact pk_in j 41 (by omega)
      refine And.intro vp (And.intro v2 (nm_e (h83 _)))
    refine br_f ?_ (And.intro vp (nm_r (e' := nI (op p)) ?_ ?_))
    · show ¬ gc_size c ≤ _
      rw [hz]; exact nI_ge (by omega) (by omega)
    · show gc_ops c (nI p).toNatClampNeg = _
      rw [cp]; exact ho p hlt
    · have hq := hcp.1
      exact pk_eq (op p) 18 (fun z => h71 (by omega) le) (fun _ => pk_eq (op p) 19 (fun z => h71 (by omega) le) (fun _ => pk_eq (op p) 20 (fun z => h71 (by omega) le) (fun _ => h83 le)))
theorem xl_2 (hcode : am_code sz op num) (hC : cx_R c sz op num) (kk : ∀ ba le, (∀ q, q ≤ 40 → ba q = -1) → post (mk_S c m e ((gb_blocks b, gb_finals b, ba, le, gb_blockCost b, gb_blockNeed b, gb_blockPeak b, gb_microFrom b, gb_finalFrom b, gb_blockNext b, gb_blockTest b, gb_blockTarget b, gb_microUsed b, gb_finalOperand b)) x d)) :
    ∀ dd p ba le, p + dd = 41 → (∀ q, q < p → ba q = -1) → lo_findLeaders_2 post (dd + 1) (nI p) c m e ((gb_blocks b, gb_finals b, ba, le, gb_blockCost b, gb_blockNeed b, gb_blockPeak b, gb_microFrom b, gb_finalFrom b, gb_blockNext b, gb_blockTest b, gb_blockTarget b, gb_microUsed b, gb_finalOperand b)) x d := by
  intro dd
  induction dd with
  | zero =>
    intro p ba le hp h
    exact br_t (nI_lt (a := 40) (by omega) (by omega)) ⟨sz + 1, xl_38 hcode hC ba (fun le => kk ba le (fun q hq => h q (by omega))) sz 0 le (by omega)⟩
  | succ dd ih =>
    intro p ba le hp h
    have v1 : vp_in (nI p) 41 := pk_in p 41 (by omega)
    have cp : (nI p).toNatClampNeg = p := pk_cl p
    have h22 : ∀ z0 : Int32, lo_findLeaders_22 post (fun y u => wX_findLeaders_2 post u.1 u.2.1 u.2.2.1 u.2.2.2.1 u.2.2.2.2.1 u.2.2.2.2.2.1 u.2.2.2.2.2.2.1 u.2.2.2.2.2.2.2.1 u.2.2.2.2.2.2.2.2.1 u.2.2.2.2.2.2.2.2.2.1 u.2.2.2.2.2.2.2.2.2.2.1 u.2.2.2.2.2.2.2.2.2.2.2.1 u.2.2.2.2.2.2.2.2.2.2.2.2.1 u.2.2.2.2.2.2.2.2.2.2.2.2.2.1 u.2.2.2.2.2.2.2.2.2.2.2.2.2.2.1 u.2.2.2.2.2.2.2.2.2.2.2.2.2.2.2.1 u.2.2.2.2.2.2.2.2.2.2.2.2.2.2.2.2.1 u.2.2.2.2.2.2.2.2.2.2.2.2.2.2.2.2.2.1 u.2.2.2.2.2.2.2.2.2.2.2.2.2.2.2.2.2.2.1 (dd + 1) y u.2.2.2.2.2.2.2.2.2.2.2.2.2.2.2.2.2.2.2.1 u.2.2.2.2.2.2.2.2.2.2.2.2.2.2.2.2.2.2.2.2.1 u.2.2.2.2.2.2.2.2.2.2.2.2.2.2.2.2.2.2.2.2.2.1 u.2.2.2.2.2.2.2.2.2.2.2.2.2.2.2.2.2.2.2.2.2.2.1 u.2.2.2.2.2.2.2.2.2.2.2.2.2.2.2.2.2.2.2.2.2.2.2.1 u.2.2.2.2.2.2.2.2.2.2.2.2.2.2.2.2.2.2.2.2.2.2.2.2.1 u.2.2.2.2.2.2.2.2.2.2.2.2.2.2.2.2.2.2.2.2.2.2.2.2.2.1 u.2.2.2.2.2.2.2.2.2.2.2.2.2.2.2.2.2.2.2.2.2.2.2.2.2.2.1 u.2.2.2.2.2.2.2.2.2.2.2.2.2.2.2.2.2.2.2.2.2.2.2.2.2.2.2.1 u.2.2.2.2.2.2.2.2.2.2.2.2.2.2.2.2.2.2.2.2.2.2.2.2.2.2.2.2.1 u.2.2.2.2.2.2.2.2.2.2.2.2.2.2.2.2.2.2.2.2.2.2.2.2.2.2.2.2.2.1 u.2.2.2.2.2.2.2.2.2.2.2.2.2.2.2.2.2.2.2.2.2.2.2.2.2.2.2.2.2.2.1 u.2.2.2.2.2.2.2.2.2.2.2.2.2.2.2.2.2.2.2.2.2.2.2.2.2.2.2.2.2.2.2.1 u.2.2.2.2.2.2.2.2.2.2.2.2.2.2.2.2.2.2.2.2.2.2.2.2.2.2.2.2.2.2.2.2.1 u.2.2.2.2.2.2.2.2.2.2.2.2.2.2.2.2.2.2.2.2.2.2.2.2.2.2.2.2.2.2.2.2.2.1 u.2.2.2.2.2.2.2.2.2.2.2.2.2.2.2.2.2.2.2.2.2.2.2.2.2.2.2.2.2.2.2.2.2.2.1 u.2.2.2.2.2.2.2.2.2.2.2.2.2.2.2.2.2.2.2.2.2.2.2.2.2.2.2.2.2.2.2.2.2.2.2.1 u.2.2.2.2.2.2.2.2.2.2.2.2.2.2.2.2.2.2.2.2.2.2.2.2.2.2.2.2.2.2.2.2.2.2.2.2.1 u.2.2.2.2.2.2.2.2.2.2.2.2.2.2.2.2.2.2.2.2.2.2.2.2.2.2.2.2.2.2.2.2.2.2.2.2.2.1 u.2.2.2.2.2.2.2.2.2.2.2.2.2.2.2.2.2.2.2.2.2.2.2.2.2.2.2.2.2.2.2.2.2.2.2.2.2.2.1 u.2.2.2.2.2.2.2.2.2.2.2.2.2.2.2.2.2.2.2.2.2.2.2.2.2.2.2.2.2.2.2.2.2.2.2.2.2.2.2.1 u.2.2.2.2.2.2.2.2.2.2.2.2.2.2.2.2.2.2.2.2.2.2.2.2.2.2.2.2.2.2.2.2.2.2.2.2.2.2.2.2.1 u.2.2.2.2.2.2.2.2.2.2.2.2.2.2.2.2.2.2.2.2.2.2.2.2.2.2.2.2.2.2.2.2.2.2.2.2.2.2.2.2.2.1 u.2.2.2.2.2.2.2.2.2.2.2.2.2.2.2.2.2.2.2.2.2.2.2.2.2.2.2.2.2.2.2.2.2.2.2.2.2.2.2.2.2.2.1 u.2.2.2.2.2.2.2.2.2.2.2.2.2.2.2.2.2.2.2.2.2.2.2.2.2.2.2.2.2.2.2.2.2.2.2.2.2.2.2.2.2.2.2.1 u.2.2.2.2.2.2.2.2.2.2.2.2.2.2.2.2.2.2.2.2.2.2.2.2.2.2.2.2.2.2.2.2.2.2.2.2.2.2.2.2.2.2.2.2.1 u.2.2.2.2.2.2.2.2.2.2.2.2.2.2.2.2.2.2.2.2.2.2.2.2.2.2.2.2.2.2.2.2.2.2.2.2.2.2.2.2.2.2.2.2.2.1 u.2.2.2.2.2.2.2.2.2.2.2.2.2.2.2.2.2.2.2.2.2.2.2.2.2.2.2.2.2.2.2.2.2.2.2.2.2.2.2.2.2.2.2.2.2.2.1 u.2.2.2.2.2.2.2.2.2.2.2.2.2.2.2.2.2.2.2.2.2.2.2.2.2.2.2.2.2.2.2.2.2.2.2.2.2.2.2.2.2.2.2.2.2.2.2.1 u.2.2.2.2.2.2.2.2.2.2.2.2.2.2.2.2.2.2.2.2.2.2.2.2.2.2.2.2.2.2.2.2.2.2.2.2.2.2.2.2.2.2.2.2.2.2.2.2.1 u.2.2.2.2.2.2.2.2.2.2.2.2.2.2.2.2.2.2.2.2.2.2.2.2.2.2.2.2.2.2.2.2.2.2.2.2.2.2.2.2.2.2.2.2.2.2.2.2.2.1 u.2.2.2.2.2.2.2.2.2.2.2.2.2.2.2.2.2.2.2.2.2.2.2.2.2.2.2.2.2.2.2.2.2.2.2.2.2.2.2.2.2.2.2.2.2.2.2.2.2.2.1 u.2.2.2.2.2.2.2.2.2.2.2.2.2.2.2.2.2.2.2.2.2.2.2.2.2.2.2.2.2.2.2.2.2.2.2.2.2.2.2.2.2.2.2.2.2.2.2.2.2.2.2.1 u.2.2.2.2.2.2.2.2.2.2.2.2.2.2.2.2.2.2.2.2.2.2.2.2.2.2.2.2.2.2.2.2.2.2.2.2.2.2.2.2.2.2.2.2.2.2.2.2.2.2.2.2) (nI p) z0 (nI p) c m e ((gb_blocks b, gb_finals b, ba, le, gb_blockCost b, gb_blockNeed b, gb_blockPeak b, gb_microFrom b, gb_finalFrom b, gb_blockNext b, gb_blockTest b, gb_blockTarget b, gb_microUsed b, gb_finalOperand b)) x d := by
      intro z0
      refine And.intro v1 (nm_r (e' := upd le p (vp_nar .boolean z0)) ?_ (And.intro v1 (nm_r (e' := upd ba p (-1)) ?_ (nm_r (e' := nI (p + 1)) (nI_1 p) (ih (p + 1) (upd ba p (-1)) (upd le p (vp_nar .boolean z0)) (by omega) (fun q hq => ?_))))))
      · show upd le (nI p).toNatClampNeg (vp_nar .boolean z0) = _
        rw [cp]
      · show upd ba (nI p).toNatClampNeg (vp_nar .byte (-1)) = _
        rw [cp, nar_y1]
      · by_cases e : q = p
        · subst e; exact pk_us
        · rw [pk_un e]; exact h q (by omega)
    exact br_f (nI_nlt (b := p) (a := 40) (by omega) (by decide)) (br_c (fun _ => h22 1) (fun _ => h22 0))
theorem xl_find (hcode : am_code sz op num) (hC : cx_R c sz op num) (kk : ∀ ba le, (∀ q, q ≤ 40 → ba q = -1) → post (mk_S c m e ((gb_blocks b, gb_finals b, ba, le, gb_blockCost b, gb_blockNeed b, gb_blockPeak b, gb_microFrom b, gb_finalFrom b, gb_blockNext b, gb_blockTest b, gb_blockTarget b, gb_microUsed b, gb_finalOperand b)) x d)) : wpX_findLeaders post (mk_S c m e b x d) :=
  ⟨42, xl_2 hcode hC kk 41 0 (gb_blockAt b) (gb_leads b) (by omega) (fun q hq => absurd hq (Nat.not_lt_zero _))⟩
end XL
end
section
/-- the tables stand for the code -/
def tk_R (sz : Nat) (op : Nat → Nat) (num : Nat → Int32) (b : ty_B) (x : ty_X) : Prop := ∀ q, q < sz → gb_blockAt b q = -1 ∨ ∃ i mf me ff fe nc, i < 41 ∧ gb_blockAt b q = nI i ∧ gb_microFrom b i = nI mf ∧ gb_microFrom b (i + 1) = nI me ∧ gb_finalFrom b i = nI ff ∧ gb_finalFrom b (i + 1) = nI fe ∧ bl_R sz op num q b x i mf me ff fe nc
/-- while the blocks are translated: p the next position, ce the end of the last block -/
def tl_I (sz : Nat) (op : Nat → Nat) (num : Nat → Int32) (p : Nat) (b : ty_B) (x : ty_X) : Prop :=
  ∃ (bi mi fn nc ce : Nat) (MF FF : Nat → Nat), (gb_blocks b = nI bi ∧ gb_finals b = nI fn ∧ gx_micros x = nI mi ∧ gx_constants x = nI nc) ∧ (bi ≤ p ∧ ce ≤ sz ∧ mi ≤ ce ∧ nc ≤ ce ∧ fn ≤ 3 * ce) ∧ (∀ q, p ≤ q → q < ce → gb_leads b q = 0) ∧
    (∀ q, q ≤ 40 → p ≤ q → gb_blockAt b q = -1) ∧ MF bi = mi ∧ FF bi = fn ∧ (∀ i, i < bi → gb_microFrom b i = nI (MF i) ∧ gb_finalFrom b i = nI (FF i)) ∧
    (∀ q, q < p → gb_blockAt b q = -1 ∨ ∃ i nci, i < bi ∧ gb_blockAt b q = nI i ∧ nci ≤ nc ∧ MF (i + 1) ≤ mi ∧ FF (i + 1) ≤ fn ∧ bl_R sz op num q b x i (MF i) (MF (i + 1)) (FF i) (FF (i + 1)) nci)
section XM
variable {c : ty_C} {m : ty_M} {e : ty_E} {b : ty_B} {x : ty_X} {d : ty_D} {post : SX → Prop} {sz : Nat} {op : Nat → Nat} {num : Nat → Int32}
theorem xm_26 (hcode : am_code sz op num) (hC : cx_R c sz op num) (kk : ∀ b' x', tk_R sz op num b' x' → post (mk_S c m e b' x' d)) :
    ∀ dd p b x, p + dd = sz → tl_I sz op num p b x → lo_translate_26 post (dd + 1) (nI p) c m e b x d := by
  have hsz := hcode.1
  have hC0 := hC
  obtain ⟨hz, ho, hnu⟩ := hC0
  intro dd
  induction dd with
  | zero =>
    intro p b x hp hI
    have e0 : p = sz := by omega
    subst e0
    obtain ⟨bi, mi, fn, nc, ce, MF, FF, ⟨h1, h2, h3, h4⟩, ⟨b1, b2, b3, b4, b5⟩, h5, h6, h7, h8, h9, h10⟩ := hI
    have cb : (gb_blocks b).toNatClampNeg = bi := pk_cl bi h1
    refine br_t ?_ (And.intro (pk_in bi 42 (by omega) h1) (nm_r (e' := upd (gb_microFrom b) bi (nI mi)) ?_ (And.intro (pk_in bi 42 (by omega) h1) (nm_r (e' := upd (gb_finalFrom b) bi (nI fn)) ?_ ?_))))
    · show gc_size c ≤ _
      rw [hz]; exact nI_le (by omega) (by omega)
    · show upd (gb_microFrom b) (gb_blocks b).toNatClampNeg (vp_nar .short (gx_micros x).toInt16.toInt32) = _
      rw [cb, h3, pk_vs, wi_s (by omega)]
    · show upd (gb_finalFrom b) (gb_blocks b).toNatClampNeg (vp_nar .short (gb_finals b).toInt16.toInt32) = _
      rw [cb, h2, pk_vs, wi_s (by omega)]
    · refine kk ((gb_blocks b, gb_finals b, gb_blockAt b, gb_leads b, gb_blockCost b, gb_blockNeed b, gb_blockPeak b, upd (gb_microFrom b) bi (nI mi), upd (gb_finalFrom b) bi (nI fn), gb_blockNext b, gb_blockTest b, gb_blockTarget b, gb_microUsed b, gb_finalOperand b)) x (fun q hq => ?_)
      rcases h10 q hq with z | ⟨i, nci, z1, z2, z3, z4, z5, z6⟩
      · exact Or.inl z
      · have hmf : ∀ j, j ≤ bi → upd (gb_microFrom b) bi (nI mi) j = nI (MF j) := by
          intro j hj
          by_cases e : j = bi
          · rw [e, pk_us, h7]
          · rw [pk_un e]; exact (h9 j (by omega)).1
        have hff : ∀ j, j ≤ bi → upd (gb_finalFrom b) bi (nI fn) j = nI (FF j) := by
          intro j hj
          by_cases e : j = bi
          · rw [e, pk_us, h8]
          · rw [pk_un e]; exact (h9 j (by omega)).2
        exact Or.inr ⟨i, MF i, MF (i + 1), FF i, FF (i + 1), nci, by omega, z2, hmf i (by omega), hmf (i + 1) (by omega), hff i (by omega), hff (i + 1) (by omega), z6⟩
  | succ dd ih =>
    intro p b x hp hI
    have hlt : p < sz := by omega
    have cp : (nI p).toNatClampNeg = p := pk_cl p
    have vp : vp_in (nI p) 40 := pk_in p 40 (by omega)
    have vp1 : vp_in (nI p) 41 := pk_in p 41 (by omega)
    have hcp := hcode.2 p hlt
    have eo : gc_ops c (nI p).toNatClampNeg = nI (op p) := by rw [cp]; exact ho p hlt
    -- no block begins here
    have h81 : lo_translate_81 post (fun y u => wX_translate_26 post (dd + 1) y u.1 u.2.1 u.2.2.1 u.2.2.2.1 u.2.2.2.2.1 u.2.2.2.2.2.1 u.2.2.2.2.2.2.1 u.2.2.2.2.2.2.2.1 u.2.2.2.2.2.2.2.2.1 u.2.2.2.2.2.2.2.2.2.1 u.2.2.2.2.2.2.2.2.2.2.1 u.2.2.2.2.2.2.2.2.2.2.2.1 u.2.2.2.2.2.2.2.2.2.2.2.2.1 u.2.2.2.2.2.2.2.2.2.2.2.2.2.1 u.2.2.2.2.2.2.2.2.2.2.2.2.2.2.1 u.2.2.2.2.2.2.2.2.2.2.2.2.2.2.2.1 u.2.2.2.2.2.2.2.2.2.2.2.2.2.2.2.2.1 u.2.2.2.2.2.2.2.2.2.2.2.2.2.2.2.2.2.1 u.2.2.2.2.2.2.2.2.2.2.2.2.2.2.2.2.2.2.1 u.2.2.2.2.2.2.2.2.2.2.2.2.2.2.2.2.2.2.2.1 u.2.2.2.2.2.2.2.2.2.2.2.2.2.2.2.2.2.2.2.2.1 u.2.2.2.2.2.2.2.2.2.2.2.2.2.2.2.2.2.2.2.2.2.1 u.2.2.2.2.2.2.2.2.2.2.2.2.2.2.2.2.2.2.2.2.2.2.1 u.2.2.2.2.2.2.2.2.2.2.2.2.2.2.2.2.2.2.2.2.2.2.2.1 u.2.2.2.2.2.2.2.2.2.2.2.2.2.2.2.2.2.2.2.2.2.2.2.2.1 u.2.2.2.2.2.2.2.2.2.2.2.2.2.2.2.2.2.2.2.2.2.2.2.2.2.1 u.2.2.2.2.2.2.2.2.2.2.2.2.2.2.2.2.2.2.2.2.2.2.2.2.2.2.1 u.2.2.2.2.2.2.2.2.2.2.2.2.2.2.2.2.2.2.2.2.2.2.2.2.2.2.2.1 u.2.2.2.2.2.2.2.2.2.2.2.2.2.2.2.2.2.2.2.2.2.2.2.2.2.2.2.2.1 u.2.2.2.2.2.2.2.2.2.2.2.2.2.2.2.2.2.2.2.2.2.2.2.2.2.2.2.2.2.1 u.2.2.2.2.2.2.2.2.2.2.2.2.2.2.2.2.2.2.2.2.2.2.2.2.2.2.2.2.2.2.1 u.2.2.2.2.2.2.2.2.2.2.2.2.2.2.2.2.2.2.2.2.2.2.2.2.2.2.2.2.2.2.2.1 u.2.2.2.2.2.2.2.2.2.2.2.2.2.2.2.2.2.2.2.2.2.2.2.2.2.2.2.2.2.2.2.2.1 u.2.2.2.2.2.2.2.2.2.2.2.2.2.2.2.2.2.2.2.2.2.2.2.2.2.2.2.2.2.2.2.2.2.1 u.2.2.2.2.2.2.2.2.2.2.2.2.2.2.2.2.2.2.2.2.2.2.2.2.2.2.2.2.2.2.2.2.2.2.1 u.2.2.2.2.2.2.2.2.2.2.2.2.2.2.2.2.2.2.2.2.2.2.2.2.2.2.2.2.2.2.2.2.2.2.2.1 u.2.2.2.2.2.2.2.2.2.2.2.2.2.2.2.2.2.2.2.2.2.2.2.2.2.2.2.2.2.2.2.2.2.2.2.2.1 u.2.2.2.2.2.2.2.2.2.2.2.2.2.2.2.2.2.2.2.2.2.2.2.2.2.2.2.2.2.2.2.2.2.2.2.2.2.1 u.2.2.2.2.2.2.2.2.2.2.2.2.2.2.2.2.2.2.2.2.2.2.2.2.2.2.2.2.2.2.2.2.2.2.2.2.2.2.1 u.2.2.2.2.2.2.2.2.2.2.2.2.2.2.2.2.2.2.2.2.2.2.2.2.2.2.2.2.2.2.2.2.2.2.2.2.2.2.2.1 u.2.2.2.2.2.2.2.2.2.2.2.2.2.2.2.2.2.2.2.2.2.2.2.2.2.2.2.2.2.2.2.2.2.2.2.2.2.2.2.2.1 u.2.2.2.2.2.2.2.2.2.2.2.2.2.2.2.2.2.2.2.2.2.2.2.2.2.2.2.2.2.2.2.2.2.2.2.2.2.2.2.2.2.1 u.2.2.2.2.2.2.2.2.2.2.2.2.2.2.2.2.2.2.2.2.2.2.2.2.2.2.2.2.2.2.2.2.2.2.2.2.2.2.2.2.2.2.1 u.2.2.2.2.2.2.2.2.2.2.2.2.2.2.2.2.2.2.2.2.2.2.2.2.2.2.2.2.2.2.2.2.2.2.2.2.2.2.2.2.2.2.2.1 u.2.2.2.2.2.2.2.2.2.2.2.2.2.2.2.2.2.2.2.2.2.2.2.2.2.2.2.2.2.2.2.2.2.2.2.2.2.2.2.2.2.2.2.2.1 u.2.2.2.2.2.2.2.2.2.2.2.2.2.2.2.2.2.2.2.2.2.2.2.2.2.2.2.2.2.2.2.2.2.2.2.2.2.2.2.2.2.2.2.2.2.1 u.2.2.2.2.2.2.2.2.2.2.2.2.2.2.2.2.2.2.2.2.2.2.2.2.2.2.2.2.2.2.2.2.2.2.2.2.2.2.2.2.2.2.2.2.2.2.1 u.2.2.2.2.2.2.2.2.2.2.2.2.2.2.2.2.2.2.2.2.2.2.2.2.2.2.2.2.2.2.2.2.2.2.2.2.2.2.2.2.2.2.2.2.2.2.2.1 u.2.2.2.2.2.2.2.2.2.2.2.2.2.2.2.2.2.2.2.2.2.2.2.2.2.2.2.2.2.2.2.2.2.2.2.2.2.2.2.2.2.2.2.2.2.2.2.2.1 u.2.2.2.2.2.2.2.2.2.2.2.2.2.2.2.2.2.2.2.2.2.2.2.2.2.2.2.2.2.2.2.2.2.2.2.2.2.2.2.2.2.2.2.2.2.2.2.2.2.1 u.2.2.2.2.2.2.2.2.2.2.2.2.2.2.2.2.2.2.2.2.2.2.2.2.2.2.2.2.2.2.2.2.2.2.2.2.2.2.2.2.2.2.2.2.2.2.2.2.2.2.1 u.2.2.2.2.2.2.2.2.2.2.2.2.2.2.2.2.2.2.2.2.2.2.2.2.2.2.2.2.2.2.2.2.2.2.2.2.2.2.2.2.2.2.2.2.2.2.2.2.2.2.2.1 u.2.2.2.2.2.2.2.2.2.2.2.2.2.2.2.2.2.2.2.2.2.2.2.2.2.2.2.2.2.2.2.2.2.2.2.2.2.2.2.2.2.2.2.2.2.2.2.2.2.2.2.2) (nI p) c m e b x d := by
      refine br_t rfl (nm_r (e' := nI (p + 1)) (nI_1 p) (ih (p + 1) b x (by omega) ?_))
      obtain ⟨bi, mi, fn, nc, ce, MF, FF, h1, ⟨b1, b2⟩, h5, h6, h7, h8, h9, h10⟩ := hI
      refine ⟨bi, mi, fn, nc, ce, MF, FF, h1, ⟨by omega, b2⟩, fun q q1 q2 => h5 q (by omega) q2, fun q q1 q2 => h6 q q1 (by omega), h7, h8, h9, fun q hq => ?_⟩
      by_cases e : q = p
      · rw [e]; exact Or.inl (h6 p (by omega) (Nat.le_refl _))
      · exact h10 q (by omega)
    -- a block begins here
    have h77 : ¬ gb_leads b p = 0 → (is_sim (op p) ∨ op p = 18 ∨ op p = 19) → lo_translate_77 post (fun y u => wX_translate_26 post (dd + 1) y u.1 u.2.1 u.2.2.1 u.2.2.2.1 u.2.2.2.2.1 u.2.2.2.2.2.1 u.2.2.2.2.2.2.1 u.2.2.2.2.2.2.2.1 u.2.2.2.2.2.2.2.2.1 u.2.2.2.2.2.2.2.2.2.1 u.2.2.2.2.2.2.2.2.2.2.1 u.2.2.2.2.2.2.2.2.2.2.2.1 u.2.2.2.2.2.2.2.2.2.2.2.2.1 u.2.2.2.2.2.2.2.2.2.2.2.2.2.1 u.2.2.2.2.2.2.2.2.2.2.2.2.2.2.1 u.2.2.2.2.2.2.2.2.2.2.2.2.2.2.2.1 u.2.2.2.2.2.2.2.2.2.2.2.2.2.2.2.2.1 u.2.2.2.2.2.2.2.2.2.2.2.2.2.2.2.2.2.1 u.2.2.2.2.2.2.2.2.2.2.2.2.2.2.2.2.2.2.1 u.2.2.2.2.2.2.2.2.2.2.2.2.2.2.2.2.2.2.2.1 u.2.2.2.2.2.2.2.2.2.2.2.2.2.2.2.2.2.2.2.2.1 u.2.2.2.2.2.2.2.2.2.2.2.2.2.2.2.2.2.2.2.2.2.1 u.2.2.2.2.2.2.2.2.2.2.2.2.2.2.2.2.2.2.2.2.2.2.1 u.2.2.2.2.2.2.2.2.2.2.2.2.2.2.2.2.2.2.2.2.2.2.2.1 u.2.2.2.2.2.2.2.2.2.2.2.2.2.2.2.2.2.2.2.2.2.2.2.2.1 u.2.2.2.2.2.2.2.2.2.2.2.2.2.2.2.2.2.2.2.2.2.2.2.2.2.1 u.2.2.2.2.2.2.2.2.2.2.2.2.2.2.2.2.2.2.2.2.2.2.2.2.2.2.1 u.2.2.2.2.2.2.2.2.2.2.2.2.2.2.2.2.2.2.2.2.2.2.2.2.2.2.2.1 u.2.2.2.2.2.2.2.2.2.2.2.2.2.2.2.2.2.2.2.2.2.2.2.2.2.2.2.2.1 u.2.2.2.2.2.2.2.2.2.2.2.2.2.2.2.2.2.2.2.2.2.2.2.2.2.2.2.2.2.1 u.2.2.2.2.2.2.2.2.2.2.2.2.2.2.2.2.2.2.2.2.2.2.2.2.2.2.2.2.2.2.1 u.2.2.2.2.2.2.2.2.2.2.2.2.2.2.2.2.2.2.2.2.2.2.2.2.2.2.2.2.2.2.2.1 u.2.2.2.2.2.2.2.2.2.2.2.2.2.2.2.2.2.2.2.2.2.2.2.2.2.2.2.2.2.2.2.2.1 u.2.2.2.2.2.2.2.2.2.2.2.2.2.2.2.2.2.2.2.2.2.2.2.2.2.2.2.2.2.2.2.2.2.1 u.2.2.2.2.2.2.2.2.2.2.2.2.2.2.2.2.2.2.2.2.2.2.2.2.2.2.2.2.2.2.2.2.2.2.1 u.2.2.2.2.2.2.2.2.2.2.2.2.2.2.2.2.2.2.2.2.2.2.2.2.2.2.2.2.2.2.2.2.2.2.2.1 u.2.2.2.2.2.2.2.2.2.2.2.2.2.2.2.2.2.2.2.2.2.2.2.2.2.2.2.2.2.2.2.2.2.2.2.2.1 u.2.2.2.2.2.2.2.2.2.2.2.2.2.2.2.2.2.2.2.2.2.2.2.2.2.2.2.2.2.2.2.2.2.2.2.2.2.1 u.2.2.2.2.2.2.2.2.2.2.2.2.2.2.2.2.2.2.2.2.2.2.2.2.2.2.2.2.2.2.2.2.2.2.2.2.2.2.1 u.2.2.2.2.2.2.2.2.2.2.2.2.2.2.2.2.2.2.2.2.2.2.2.2.2.2.2.2.2.2.2.2.2.2.2.2.2.2.2.1 u.2.2.2.2.2.2.2.2.2.2.2.2.2.2.2.2.2.2.2.2.2.2.2.2.2.2.2.2.2.2.2.2.2.2.2.2.2.2.2.2.1 u.2.2.2.2.2.2.2.2.2.2.2.2.2.2.2.2.2.2.2.2.2.2.2.2.2.2.2.2.2.2.2.2.2.2.2.2.2.2.2.2.2.1 u.2.2.2.2.2.2.2.2.2.2.2.2.2.2.2.2.2.2.2.2.2.2.2.2.2.2.2.2.2.2.2.2.2.2.2.2.2.2.2.2.2.2.1 u.2.2.2.2.2.2.2.2.2.2.2.2.2.2.2.2.2.2.2.2.2.2.2.2.2.2.2.2.2.2.2.2.2.2.2.2.2.2.2.2.2.2.2.1 u.2.2.2.2.2.2.2.2.2.2.2.2.2.2.2.2.2.2.2.2.2.2.2.2.2.2.2.2.2.2.2.2.2.2.2.2.2.2.2.2.2.2.2.2.1 u.2.2.2.2.2.2.2.2.2.2.2.2.2.2.2.2.2.2.2.2.2.2.2.2.2.2.2.2.2.2.2.2.2.2.2.2.2.2.2.2.2.2.2.2.2.1 u.2.2.2.2.2.2.2.2.2.2.2.2.2.2.2.2.2.2.2.2.2.2.2.2.2.2.2.2.2.2.2.2.2.2.2.2.2.2.2.2.2.2.2.2.2.2.1 u.2.2.2.2.2.2.2.2.2.2.2.2.2.2.2.2.2.2.2.2.2.2.2.2.2.2.2.2.2.2.2.2.2.2.2.2.2.2.2.2.2.2.2.2.2.2.2.1 u.2.2.2.2.2.2.2.2.2.2.2.2.2.2.2.2.2.2.2.2.2.2.2.2.2.2.2.2.2.2.2.2.2.2.2.2.2.2.2.2.2.2.2.2.2.2.2.2.1 u.2.2.2.2.2.2.2.2.2.2.2.2.2.2.2.2.2.2.2.2.2.2.2.2.2.2.2.2.2.2.2.2.2.2.2.2.2.2.2.2.2.2.2.2.2.2.2.2.2.1 u.2.2.2.2.2.2.2.2.2.2.2.2.2.2.2.2.2.2.2.2.2.2.2.2.2.2.2.2.2.2.2.2.2.2.2.2.2.2.2.2.2.2.2.2.2.2.2.2.2.2.1 u.2.2.2.2.2.2.2.2.2.2.2.2.2.2.2.2.2.2.2.2.2.2.2.2.2.2.2.2.2.2.2.2.2.2.2.2.2.2.2.2.2.2.2.2.2.2.2.2.2.2.2.1 u.2.2.2.2.2.2.2.2.2.2.2.2.2.2.2.2.2.2.2.2.2.2.2.2.2.2.2.2.2.2.2.2.2.2.2.2.2.2.2.2.2.2.2.2.2.2.2.2.2.2.2.2) (nI p) c m e b x d := by
      intro hlp hops
      obtain ⟨bi, mi, fn, nc, ce, MF, FF, ⟨h1, h2, h3, h4⟩, ⟨b1, b2, b3, b4, b5⟩, h5, h6, h7, h8, h9, h10⟩ := hI
      have hce : ce ≤ p := by
        apply Classical.byContradiction
        intro z
        exact hlp (h5 p (Nat.le_refl _) (by omega))
      refine br_f (by decide) (And.intro vp1 (nm_r (e' := upd (gb_blockAt b) p (nI bi)) ?_ ?_))
      · show upd (gb_blockAt b) (nI p).toNatClampNeg (vp_nar .byte (gb_blocks b).toInt8.toInt32) = _
        rw [cp, h1, pk_vb, wi_b (by omega)]
      · refine xl_block (c := c) (m := m) (e := e) (b := (gb_blocks b, gb_finals b, upd (gb_blockAt b) p (nI bi), gb_leads b, gb_blockCost b, gb_blockNeed b, gb_blockPeak b, gb_microFrom b, gb_finalFrom b, gb_blockNext b, gb_blockTest b, gb_blockTarget b, gb_microUsed b, gb_finalOperand b)) (x := x) (d := d) (bi := bi) (mf := mi) (ff := fn) (nc0 := nc) (start := p) hcode hC (by omega) h1 h2 h3 h4 (by omega) (by omega) (by omega) hlt hops (fun b' x' pe me fe nc' hout => ?_)
        obtain ⟨⟨o1, o2, o3, o4, o5, o6, o7, o8⟩, ole, ofb, ofx, ⟨m1, m2, m3, m4, m5⟩, obl⟩ := hout
        have hbl : gb_blocks b' = nI bi := ofb.1.trans h1
        refine nm_r (e' := nI (bi + 1)) ?_ (nm_r (e' := nI (p + 1)) (nI_1 p) ?_)
        · show gb_blocks b' + 1 = _
          rw [hbl, nI_1]
        · have hba : gb_blockAt b' = upd (gb_blockAt b) p (nI bi) := ofb.2.1
          have hld : gb_leads b' = gb_leads b := ofb.2.2.1
          refine ih (p + 1) ((nI (bi + 1), gb_finals b', gb_blockAt b', gb_leads b', gb_blockCost b', gb_blockNeed b', gb_blockPeak b', gb_microFrom b', gb_finalFrom b', gb_blockNext b', gb_blockTest b', gb_blockTarget b', gb_microUsed b', gb_finalOperand b')) x' (by omega) ⟨bi + 1, me, fe, nc', pe, fun i => if i = bi + 1 then me else MF i, fun i => if i = bi + 1 then fe else FF i, ⟨rfl, m3, m4, m5⟩, ⟨by omega, o2, o4, o8, o6⟩, ?_, ?_, if_pos rfl, if_pos rfl, ?_, ?_⟩
          · intro q q1 q2
            show gb_leads b' q = 0
            rw [hld]; exact ole q (by omega) q2
          · intro q q1 q2
            show gb_blockAt b' q = -1
            rw [hba, pk_un (by omega)]; exact h6 q q1 (by omega)
          · intro i hi
            show gb_microFrom b' i = nI (if i = bi + 1 then me else MF i) ∧ gb_finalFrom b' i = nI (if i = bi + 1 then fe else FF i)
            rw [if_neg (by omega), if_neg (by omega)]
            by_cases e : i = bi
            · rw [e, h7, h8]; exact ⟨m1, m2⟩
            · obtain ⟨_, _, _, _, _, _, w1, w2⟩ := ofb.2.2.2.2 i e
              have := h9 i (by omega)
              exact ⟨w1.trans this.1, w2.trans this.2⟩
          · intro q hq
            by_cases e : q = p
            · subst e
              refine Or.inr ⟨bi, nc', by omega, ?_, Nat.le_refl _, ?_, ?_, ?_⟩
              · show gb_blockAt b' q = nI bi
                rw [hba, pk_us]
              · show (if bi + 1 = bi + 1 then me else MF (bi + 1)) ≤ me
                rw [if_pos rfl]; exact Nat.le_refl _
              · show (if bi + 1 = bi + 1 then fe else FF (bi + 1)) ≤ fe
                rw [if_pos rfl]; exact Nat.le_refl _
              · show bl_R sz op num q ((nI (bi + 1), gb_finals b', gb_blockAt b', gb_leads b', gb_blockCost b', gb_blockNeed b', gb_blockPeak b', gb_microFrom b', gb_finalFrom b', gb_blockNext b', gb_blockTest b', gb_blockTarget b', gb_microUsed b', gb_finalOperand b')) x' bi (if bi = bi + 1 then me else MF bi) (if bi + 1 = bi + 1 then me else MF (bi + 1)) (if bi = bi + 1 then fe else FF bi) (if bi + 1 = bi + 1 then fe else FF (bi + 1)) nc'
                rw [if_neg (by omega), if_pos rfl, if_neg (by omega), if_pos rfl, h7, h8]
                exact obl
            · have hb' : gb_blockAt b' q = gb_blockAt b q := by rw [hba, pk_un e]
              rcases h10 q (by omega) with z | ⟨i, nci, z1, z2, z3, z4, z5, z6⟩
              · exact Or.inl (hb'.trans z)
              · refine Or.inr ⟨i, nci, by omega, hb'.trans z2, by omega, ?_, ?_, ?_⟩
                · show (if i + 1 = bi + 1 then me else MF (i + 1)) ≤ me
                  rw [if_neg (by omega)]; omega
                · show (if i + 1 = bi + 1 then fe else FF (i + 1)) ≤ fe
                  rw [if_neg (by omega)]; omega
                · show bl_R sz op num q ((nI (bi + 1), gb_finals b', gb_blockAt b', gb_leads b', gb_blockCost b', gb_blockNeed b', gb_blockPeak b', gb_microFrom b', gb_finalFrom b', gb_blockNext b', gb_blockTest b', gb_blockTarget b', gb_microUsed b', gb_finalOperand b')) x' i (if i = bi + 1 then me else MF i) (if i + 1 = bi + 1 then me else MF (i + 1)) (if i = bi + 1 then fe else FF i) (if i + 1 = bi + 1 then fe else FF (i + 1)) nci
                  rw [if_neg (by omega), if_neg (by omega), if_neg (by omega), if_neg (by omega)]
                  exact bl_keep (b := (gb_blocks b, gb_finals b, upd (gb_blockAt b) p (nI bi), gb_leads b, gb_blockCost b, gb_blockNeed b, gb_blockPeak b, gb_microFrom b, gb_finalFrom b, gb_blockNext b, gb_blockTest b, gb_blockTarget b, gb_microUsed b, gb_finalOperand b)) (b' := b') z6 (show i ≠ bi by omega) z4 z5 z3 ofb ofx
    refine br_f ?_ (And.intro vp1 (br_c (fun _ => h81) (fun zl => And.intro vp ?_)))
    · show ¬ gc_size c ≤ _
      rw [hz]; exact nI_ge (by omega) (by omega)
    · have hlp : ¬ gb_leads b p = 0 := fun q => zl (by show gb_leads b (nI p).toNatClampNeg = 0; rw [cp]; exact q)
      show wpX_isSimple _ (gc_ops c (nI p).toNatClampNeg)
      rw [eo]
      refine xw_simple hcp.1 (fun hsi => br_f (by decide) (h77 hlp (Or.inl hsi))) (fun hns => br_t rfl (And.intro vp ?_))
      show (nI (op p) = 18 → _) ∧ (¬ nI (op p) = 18 → _)
      have hq := hcp.1
      refine pk_eq (op p) 18 (fun z => h77 hlp (Or.inr (Or.inl z))) (fun z18 => And.intro vp ?_)
      show (nI (op p) = 19 → _) ∧ (¬ nI (op p) = 19 → _)
      exact pk_eq (op p) 19 (fun z => h77 hlp (Or.inr (Or.inr z))) (fun z19 => h81)
theorem xm_translate (hcode : am_code sz op num) (hC : cx_R c sz op num) (kk : ∀ b' x', tk_R sz op num b' x' → post (mk_S c m e b' x' d)) : wpX_translate post (mk_S c m e b x d) := by
  unfold wpX_translate mk_S; dsimp only
  refine xl_find (c := c) (m := m) (e := e) (b := b) (x := x) (d := d) hcode hC (fun ba le hba => ⟨sz + 1, ?_⟩)
  refine xm_26 hcode hC kk sz 0 ((0, 0, ba, le, gb_blockCost b, gb_blockNeed b, gb_blockPeak b, gb_microFrom b, gb_finalFrom b, gb_blockNext b, gb_blockTest b, gb_blockTarget b, gb_microUsed b, gb_finalOperand b)) ((0, 0, gx_newSize x, gx_taken x, gx_peak x, gx_temps x, gx_microOp x, gx_microTarget x, gx_microA x, gx_microB x, gx_constant x, gx_newStack x, gx_wordOperand x)) (by omega) ⟨0, 0, 0, 0, 0, fun _ => 0, fun _ => 0, ⟨rfl, rfl, rfl, rfl⟩, ⟨Nat.le_refl _, Nat.zero_le _, Nat.le_refl _, Nat.le_refl _, Nat.zero_le _⟩, fun q _ hq => absurd hq (Nat.not_lt_zero _), fun q hq _ => hba q hq, rfl, rfl, fun i hi => absurd hi (Nat.not_lt_zero _), fun q hq => absurd hq (Nat.not_lt_zero _)⟩
end XM
end
section
/-! a block is run -/
theorem tv_ov {K ov old tmp : Nat → Int32} {nc need tm o : Nat} (hn : nc ≤ 1000) (hk : need ≤ 900) (ho : to_ok nc need tm o) (h : ∀ i, i < need → ov i = old i) : tv_v K ov tmp o = tv_v K old tmp o := by
  unfold tv_v
  by_cases e : o < 2000
  · rw [if_pos e, if_pos e]
    by_cases e2 : o < 1000
    · rw [if_pos e2, if_pos e2]
    · rw [if_neg e2, if_neg e2]; exact h _ (by unfold to_ok at ho; omega)
  · rw [if_neg e, if_neg e]
theorem sg_app {f : Nat → Int32} {k : Nat} {B : List Int32} : ∀ {A : List Int32}, sg_R f (k + B.length) A → sg_R f k B → sg_R f k (A ++ B) := by
  intro A
  induction A with
  | nil => intro _ h; exact h
  | cons a A ih =>
    intro h1 h2
    refine ⟨?_, ih h1.2 h2⟩
    show f (k + (A ++ B).length) = a
    rw [List.length_append, ← h1.1]
    exact congrArg f (by omega)
theorem sg_fin {fo st v : Nat → Int32} {ff base : Nat} : ∀ {F : List Nat}, (∀ o, o ∈ F → o < 2 ^ 31) → sg_R fo ff (F.map nI) → (∀ j, j < F.length → st (base + j) = v (fo (ff + j)).toNatClampNeg) → sg_R st base (F.map v) := by
  intro F
  induction F with
  | nil => intro _ _ _; trivial
  | cons o F ih =>
    intro ho h1 h2
    have e1 : fo (ff + (F.map nI).length) = nI o := h1.1
    rw [List.length_map] at e1
    refine ⟨?_, ih (fun q hq => ho q (List.mem_cons_of_mem _ hq)) h1.2 (fun j hj => h2 j (by rw [List.length_cons]; omega))⟩
    rw [List.length_map, h2 F.length (by rw [List.length_cons]; omega), e1, nI_clamp (ho o (List.mem_cons_self ..))]
section XO
variable {s : Nat → Int32} {c : ty_C} {m : ty_M} {e : ty_E} {b : ty_B} {x : ty_X} {d : ty_D} {st : Int32} {p : Nat} {S : List Int32} {R : List Nat} {I O : List Int32} {W : Nat → Int32}
theorem xo_val {post : Int32 → Prop} {nc need o : Nat} (hn : nc ≤ 256) (hk : need ≤ 16) (ho : to_ok nc need 64 o) (h : post (tv_v (gx_constant x) (ge_oldValues e) (ge_tempValues e) o)) : wpX_operandValue post (mk_S c m e b x d) (nI o) := by
  have ho2 : o < 2064 := by unfold to_ok at ho; omega
  unfold tv_v at h
  refine pk_lt o 2000 (fun z => pk_lt o 1000 (fun y => ?_) (fun y => ?_)) (fun z => ?_)
  · rw [if_pos z, if_pos y] at h
    refine And.intro (pk_in o 256 (by unfold to_ok at ho; omega)) ?_
    show post (gx_constant x (nI o).toNatClampNeg)
    rw [pk_cl o]; exact h
  · rw [if_pos z, if_neg (by omega)] at h
    have e1 : nI o - 1000 = nI (o - 1000) := pk_sub (b := 1000) (by omega)
    refine And.intro (pk_in (o - 1000) 16 (by unfold to_ok at ho; omega) e1) ?_
    show post (ge_oldValues e (nI o - 1000).toNatClampNeg)
    rw [pk_cl (o - 1000) e1]; exact h
  · rw [if_neg (by omega)] at h
    have e1 : nI o - 2000 = nI (o - 2000) := pk_sub (b := 2000) (by omega)
    refine And.intro (pk_in (o - 2000) 64 (by omega) e1) ?_
    show post (ge_tempValues e (nI o - 2000).toNatClampNeg)
    rw [pk_cl (o - 2000) e1]; exact h
theorem xo_micro {post : SX → Prop} {nc need i : Nat} {g : Nat × Nat × Nat × Nat} {old : Nat → Int32} (hi : i < 128) (hn : nc ≤ 256) (hk : need ≤ 16) (hg : mv_ok nc need g)
    (r1 : gx_microOp x i = nI g.1) (r2 : gx_microTarget x i = nI g.2.1) (r3 : gx_microA x i = nI g.2.2.1) (r4 : gx_microB x i = nI g.2.2.2) (hov : ∀ j, j < need → ge_oldValues e j = old j) (h : xm_R s m st (p, S, R, I, O, W))
    (k : ∀ m' e', ge_oldValues e' = ge_oldValues e → ge_tempValues e' = (mr_s (gx_constant x) old g (ge_tempValues e, W)).1 → xm_R s m' st (p, S, R, I, O, (mr_s (gx_constant x) old g (ge_tempValues e, W)).2) → post (mk_S c m' e' b x d)) : wpX_runMicro post (mk_S c m e b x d) (nI i) := by
  have vi : vp_in (nI i) 128 := pk_in i 128 hi
  have ci : (nI i).toNatClampNeg = i := pk_cl i
  refine And.intro vi (nm_r (e' := nI g.1) ?_ (And.intro vi (nm_r (e' := nI g.2.1) ?_ ?_)))
  · show gx_microOp x (nI i).toNatClampNeg = _
    rw [ci]; exact r1
  · show gx_microTarget x (nI i).toNatClampNeg = _
    rw [ci]; exact r2
  have eA : gx_microA x (nI i).toNatClampNeg = nI g.2.2.1 := by rw [ci]; exact r3
  have eB : gx_microB x (nI i).toNatClampNeg = nI g.2.2.2 := by rw [ci]; exact r4
  have ev : ∀ o, to_ok nc need 64 o → tv_v (gx_constant x) (ge_oldValues e) (ge_tempValues e) o = tv_v (gx_constant x) old (ge_tempValues e) o := fun o ho => tv_ov (by omega) (by omega) ho hov
  unfold mr_s at k
  rcases hg with ⟨g1, g2, g3⟩ | ⟨g1, g2, g3, g4⟩ | ⟨g1, g2, g3, g4, g5⟩
  · rw [if_pos g1] at k
    refine br_t (by rw [g1]; rfl) (And.intro vi ?_)
    show wpX_operandValue _ (mk_S c m e b x d) (gx_microA x (nI i).toNatClampNeg)
    rw [eA]
    refine xo_val hn hk g3 ?_
    rw [ev _ g3]
    exact xw_write (c := c) (m := m) (e := e) (b := b) (x := x) (d := d) g.2.1 _ g2 h (fun m' h' => k m' e rfl rfl h')
  · rw [if_neg (by omega), if_pos g1] at k
    have e1 : nI g.2.1 - 2000 = nI (g.2.1 - 2000) := pk_sub (b := 2000) (by omega)
    refine br_f (by rw [g1]; decide) (br_t (by rw [g1]; rfl) (And.intro vi (And.intro ?_ (And.intro (pk_in (g.2.1 - 2000) 64 (by omega) e1) (nm_r (e' := upd (ge_tempValues e) (g.2.1 - 2000) (W g.2.2.1)) ?_ ?_)))))
    · show vp_in (gx_microA x (nI i).toNatClampNeg) 64
      rw [eA]; exact pk_in g.2.2.1 64 g4
    · show upd (ge_tempValues e) (nI g.2.1 - 2000).toNatClampNeg (gm_words m (gx_microA x (nI i).toNatClampNeg).toNatClampNeg) = _
      rw [eA, pk_cl (g.2.1 - 2000) e1, pk_cl g.2.2.1, h.1.2.2.2.2.2.2.2.2.2.2 g.2.2.1 g4]
    · exact k m ((ge_oldValues e, upd (ge_tempValues e) (g.2.1 - 2000) (W g.2.2.1))) rfl rfl h
  · have g1' := g1
    unfold to_sum at g1'
    rw [if_neg (by omega), if_neg (by omega)] at k
    have e1 : nI g.2.1 - 2000 = nI (g.2.1 - 2000) := pk_sub (b := 2000) (by omega)
    have n17 : ¬ nI g.1 = 17 := fun z => by have := (nI_eq (b := 17) (by omega) (by decide)).mp z; omega
    have n16 : ¬ nI g.1 = 16 := fun z => by have := (nI_eq (b := 16) (by omega) (by decide)).mp z; omega
    refine br_f n17 (br_f n16 (And.intro vi ?_))
    show wpX_operandValue _ (mk_S c m e b x d) (gx_microA x (nI i).toNatClampNeg)
    rw [eA]
    refine xo_val hn hk g4 (And.intro vi ?_)
    show wpX_operandValue _ (mk_S c m e b x d) (gx_microB x (nI i).toNatClampNeg)
    rw [eB]
    refine xo_val hn hk g5 ?_
    rw [ev _ g4, ev _ g5]
    refine xw_val (by omega) (by omega) (And.intro (pk_in (g.2.1 - 2000) 64 (by omega) e1) (nm_r (e' := upd (ge_tempValues e) (g.2.1 - 2000) (am_val g.1 (tv_v (gx_constant x) old (ge_tempValues e) g.2.2.1) (tv_v (gx_constant x) old (ge_tempValues e) g.2.2.2))) ?_ ?_))
    · show upd (ge_tempValues e) (nI g.2.1 - 2000).toNatClampNeg _ = _
      rw [pk_cl (g.2.1 - 2000) e1]
    · exact k m ((ge_oldValues e, upd (ge_tempValues e) (g.2.1 - 2000) (am_val g.1 (tv_v (gx_constant x) old (ge_tempValues e) g.2.2.1) (tv_v (gx_constant x) old (ge_tempValues e) g.2.2.2)))) rfl rfl h
end XO
section XO2
variable {s : Nat → Int32} {c : ty_C} {m : ty_M} {e : ty_E} {b : ty_B} {x : ty_X} {d : ty_D} {p : Nat} {R : List Nat} {I O : List Int32} {W : Nat → Int32} {post : SX → Prop}
theorem xo_9 {x1 : Int32} {need : Nat} {S0 : List Int32} (hneed : need ≤ S0.length) (hl : S0.length ≤ 16) (hss : gm_stackSize m = nI S0.length) (hs : sg_R (gm_stack m) 0 S0)
    (kk : ∀ ov, (∀ j, j < need → ov j = S0.getD j 0) → lo_runBlock_9 post x1 (nI need) 1 (nI need) c m ((ov, ge_tempValues e)) b x d) :
    ∀ dd i ov, i + dd = need → (∀ j, j < i → ov j = S0.getD j 0) → lo_runBlock_9 post x1 (nI need) (dd + 1) (nI i) c m ((ov, ge_tempValues e)) b x d := by
  intro dd
  induction dd with
  | zero =>
    intro i ov hi h
    have e0 : i = need := by omega
    subst e0
    exact kk ov h
  | succ dd ih =>
    intro i ov hi h
    have e1 : (gm_stackSize m - 1) - nI i = nI (S0.length - 1 - i) := by
      rw [hss, show nI S0.length - 1 = nI (S0.length - 1) from pk_sub (b := 1) (by omega), pk_sub (by omega)]
    refine br_f (nI_ge (by omega) (by omega)) (And.intro (pk_in (S0.length - 1 - i) 16 (by omega) e1) (And.intro (pk_in i 16 (by omega)) (nm_r (e' := upd ov i (S0.getD i 0)) ?_ (nm_r (e' := nI (i + 1)) (nI_1 i) ?_))))
    · show upd ov (nI i).toNatClampNeg (gm_stack m ((gm_stackSize m - 1) - nI i).toNatClampNeg) = _
      have := sg_get hs (show i < S0.length by omega)
      rw [Nat.zero_add] at this
      rw [pk_cl i, pk_cl (S0.length - 1 - i) e1, this]
    · refine ih (i + 1) (upd ov i (S0.getD i 0)) (by omega) (fun j hj => ?_)
      by_cases q : j = i
      · subst q; exact pk_us
      · rw [pk_un q]; exact h j (by omega)
theorem xo_100 {bi ff base nc need nx : Nat} {F : List Nat} {S0 : List Int32} {old : Nat → Int32} {test : Option (Nat × Nat)} (hbi : bi < 41) (hn : nc ≤ 256) (hk : need ≤ 16) (hbase : base = (S0.drop need).length) (hFl : ff + F.length ≤ 512) (hbF : base + F.length ≤ 16) (hF : ∀ o, o ∈ F → to_ok nc need 64 o) (hfo : sg_R (gb_finalOperand b) ff (F.map nI))
    (hov : ∀ j, j < need → ge_oldValues e j = old j) (h0 : rx_R m 1 (p, S0, R, I, O, W)) (hch : ch_R (gm_changedPages m) (gm_words m) s) (hbn : gb_blockNext b bi = nI nx) (ht0 : test = none → gb_blockTest b bi = -1) (ht1 : ∀ o tg, test = some (o, tg) → gb_blockTest b bi = nI o ∧ gb_blockTarget b bi = nI tg ∧ to_ok nc need 64 o ∧ tg ≤ 40)
    (kk : ∀ m', xm_R s m' 1 (bc_pc (tv_v (gx_constant x) old (ge_tempValues e)) nx test, tv_S (tv_v (gx_constant x) old (ge_tempValues e)) S0 F need, R, I, O, W) → post (mk_S c m' e b x d)) :
    ∀ dd j stk, j + dd = F.length → (∀ i, i < base → stk i = gm_stack m i) → (∀ i, i < j → stk (base + i) = tv_v (gx_constant x) old (ge_tempValues e) (gb_finalOperand b (ff + i)).toNatClampNeg) →
      lo_runBlock_100 post (nI bi) (nI base) (nI ff) (nI F.length) (dd + 1) (nI j) c ((gm_status m, gm_at m, gm_stackSize m, gm_returnSize m, gm_inputSize m, gm_outputSize m, gm_changedPages m, stk, gm_returns m, gm_words m, gm_inputs m, gm_outs m)) e b x d := by
  obtain ⟨g0, g1, g2, g3, g4, g5, gs, gr, gi, go, gw⟩ := h0
  have vb : vp_in (nI bi) 41 := pk_in bi 41 hbi
  have cb : (nI bi).toNatClampNeg = bi := pk_cl bi
  intro dd
  induction dd with
  | zero =>
    intro j stk hj p1 p2
    have e0 : j = F.length := by omega
    subst e0
    have hsg : sg_R stk 0 (tv_S (tv_v (gx_constant x) old (ge_tempValues e)) S0 F need) := by
      refine sg_app ?_ ?_
      · rw [Nat.zero_add, ← hbase]
        exact sg_fin (fun o ho => by have := hF o ho; unfold to_ok at this; omega) hfo p2
      · refine sg_mv (fun i hi => ?_) (sg_drop need gs)
        rw [Nat.zero_add]; exact p1 i (by omega)
    have hlen : (tv_S (tv_v (gx_constant x) old (ge_tempValues e)) S0 F need).length = base + F.length := by
      rw [tv_S_len, hbase, List.length_drop]; omega
    have kpc : ∀ q, q = bc_pc (tv_v (gx_constant x) old (ge_tempValues e)) nx test → post (mk_S c ((gm_status m, nI q, nI (base + F.length), gm_returnSize m, gm_inputSize m, gm_outputSize m, gm_changedPages m, stk, gm_returns m, gm_words m, gm_inputs m, gm_outs m)) e b x d) := by
      intro q hq
      refine kk _ ⟨⟨g0, ?_, ?_, g3, g4, g5, hsg, gr, gi, go, gw⟩, hch⟩
      · show nI q = _
        rw [hq]
      · show nI (base + F.length) = nI _
        rw [hlen]
    refine br_t (nI_le (Nat.le_refl _) (by omega)) (nm_r (e' := nI (base + F.length)) (nI_add _ _) (And.intro vb (nm_r (e' := nI nx) ?_ (And.intro vb ?_))))
    · show gb_blockNext b (nI bi).toNatClampNeg = _
      rw [cb]; exact hbn
    · cases ht : test with
      | none =>
        refine br_t ?_ (kpc nx (by rw [ht]; rfl))
        show gb_blockTest b (nI bi).toNatClampNeg = -1
        rw [cb]; exact ht0 ht
      | some t =>
        obtain ⟨o, tg⟩ := t
        obtain ⟨t1, t2, t3, t4⟩ := ht1 o tg ht
        have ho : o < 2064 := by unfold to_ok at t3; omega
        have et : gb_blockTest b (nI bi).toNatClampNeg = nI o := by rw [cb]; exact t1
        have hpc : bc_pc (tv_v (gx_constant x) old (ge_tempValues e)) nx test = if tv_v (gx_constant x) old (ge_tempValues e) o = 0 then tg else nx := by rw [ht]; rfl
        refine br_f ?_ (And.intro vb ?_)
        · show ¬ gb_blockTest b (nI bi).toNatClampNeg = -1
          rw [et]; exact nI_nm1 (by omega)
        · show wpX_operandValue _ (mk_S c ((gm_status m, nI nx, nI (base + F.length), gm_returnSize m, gm_inputSize m, gm_outputSize m, gm_changedPages m, stk, gm_returns m, gm_words m, gm_inputs m, gm_outs m)) e b x d) (gb_blockTest b (nI bi).toNatClampNeg)
          rw [et]
          refine xo_val hn hk t3 ?_
          rw [tv_ov (by omega) (by omega) t3 hov]
          refine br_c (fun z => And.intro vb (nm_r (e' := nI tg) ?_ (kpc tg (by rw [hpc, if_pos z])))) (fun z => kpc nx (by rw [hpc, if_neg z]))
          show gb_blockTarget b (nI bi).toNatClampNeg = _
          rw [cb]; exact t2
  | succ dd ih =>
    intro j stk hj p1 p2
    obtain ⟨o, ho, eo⟩ := sg_el hfo (show j < F.length by omega)
    have hok := hF o ho
    have ho2 : o < 2064 := by unfold to_ok at hok; omega
    have e1 : nI ff + nI j = nI (ff + j) := nI_add _ _
    have e2 : nI base + nI j = nI (base + j) := nI_add _ _
    have e3 : gb_finalOperand b (nI ff + nI j).toNatClampNeg = nI o := by rw [pk_cl (ff + j) e1]; exact eo
    refine br_f (nI_ge (by omega) (by omega)) (And.intro (pk_in (ff + j) 512 (by omega) e1) ?_)
    show wpX_operandValue _ (mk_S c ((gm_status m, gm_at m, gm_stackSize m, gm_returnSize m, gm_inputSize m, gm_outputSize m, gm_changedPages m, stk, gm_returns m, gm_words m, gm_inputs m, gm_outs m)) e b x d) (gb_finalOperand b (nI ff + nI j).toNatClampNeg)
    rw [e3]
    refine xo_val hn hk hok (And.intro (pk_in (base + j) 16 (by omega) e2) (nm_r (e' := upd stk (base + j) (tv_v (gx_constant x) old (ge_tempValues e) o)) ?_ (nm_r (e' := nI (j + 1)) (nI_1 j) ?_)))
    · show upd stk (nI base + nI j).toNatClampNeg _ = _
      rw [pk_cl (base + j) e2, tv_ov (by omega) (by omega) hok hov]
    · refine ih (j + 1) (upd stk (base + j) (tv_v (gx_constant x) old (ge_tempValues e) o)) (by omega) (fun i hi => ?_) (fun i hi => ?_)
      · rw [pk_un (by omega)]; exact p1 i hi
      · by_cases q : i = j
        · subst q; rw [pk_us, eo, nI_clamp (by omega)]
        · rw [pk_un (by omega)]; exact p2 i (by omega)
end XO2
end
section
section XP
variable {s : Nat → Int32} {c : ty_C} {m : ty_M} {e : ty_E} {b : ty_B} {x : ty_X} {d : ty_D} {sz : Nat} {op : Nat → Nat} {num : Nat → Int32} {post : SX → Prop}
theorem xp_46 {p bi mf Lk nc need : Nat} {S0 : List Int32} {R : List Nat} {I O : List Int32} {W0 : Nat → Int32} {g : ty_G} {old ov : Nat → Int32} (hbi : bi < 41) (hn : nc ≤ 256) (hk : need ≤ 16) (hme : mf + Lk ≤ 128) (hmf : gb_microFrom b (bi + 1) = nI (mf + Lk)) (hmv : ∀ k, k < Lk → mv_ok nc need (g k)) (hrep : ti_rep mf Lk g (gx_microOp x) (gx_microTarget x) (gx_microA x) (gx_microB x))
    (hov : ∀ j, j < need → ov j = old j) (s0 : (Nat → Int32) × (Nat → Int32))
    (kk : ∀ m' e', ge_oldValues e' = ov → ge_tempValues e' = (mr_run (gx_constant x) old g Lk s0).1 → xm_R s m' 1 (p, S0, R, I, O, (mr_run (gx_constant x) old g Lk s0).2) → lo_runBlock_46 post (nI bi) (nI need) 1 (nI (mf + Lk)) c m' e' b x d) :
    ∀ dd k m e, k + dd = Lk → ge_oldValues e = ov → ge_tempValues e = (mr_run (gx_constant x) old g k s0).1 → xm_R s m 1 (p, S0, R, I, O, (mr_run (gx_constant x) old g k s0).2) → lo_runBlock_46 post (nI bi) (nI need) (dd + 1) (nI (mf + k)) c m e b x d := by
  intro dd
  induction dd with
  | zero =>
    intro k m e hk' h1 h2 h3
    have e0 : k = Lk := by omega
    subst e0
    exact kk m e h1 h2 h3
  | succ dd ih =>
    intro k m e hk' h1 h2 h3
    have e1 : nI bi + 1 = nI (bi + 1) := nI_1 bi
    obtain ⟨r1, r2, r3, r4, _⟩ := hrep k (by omega)
    refine And.intro (pk_in (bi + 1) 42 (by omega) e1) (br_f ?_ ?_)
    · show ¬ gb_microFrom b (nI bi + 1).toNatClampNeg ≤ _
      rw [pk_cl (bi + 1) e1, hmf]; exact nI_ge (by omega) (by omega)
    · refine xo_micro (c := c) (m := m) (e := e) (b := b) (x := x) (d := d) (old := old) (need := need) (nc := nc) (g := g k) (by omega) hn hk (hmv k (by omega)) r1 r2 r3 r4 (fun j hj => by rw [h1]; exact hov j hj) h3 (fun m' e' q1 q2 q3 => nm_r (e' := nI (mf + (k + 1))) (nI_1 (mf + k)) ?_)
      refine ih (k + 1) m' e' (by omega) (q1.trans h1) ?_ ?_
      · rw [q2, mr_run, h2]
      · show xm_R s m' 1 (p, S0, R, I, O, (mr_s (gx_constant x) old (g k) (mr_run (gx_constant x) old g k s0)).2)
        rw [h2] at q3
        exact q3
theorem xp_block {q i mf me ff fe nc : Nat} {S0 : List Int32} {R : List Nat} {I O : List Int32} {W0 : Nat → Int32} (hi : i < 41) (f1 : gb_microFrom b i = nI mf) (f2 : gb_microFrom b (i + 1) = nI me) (f3 : gb_finalFrom b i = nI ff) (f4 : gb_finalFrom b (i + 1) = nI fe) (hbl : bl_R sz op num q b x i mf me ff fe nc)
    (hl : S0.length ≤ 16) (h : xm_R s m 1 (q, S0, R, I, O, W0))
    (kk : ∀ cost need peak, gb_blockCost b i = nI cost → gb_blockNeed b i = nI need → gb_blockPeak b i = nI peak → 1 ≤ cost → cost ≤ 40 → need ≤ 100 → peak ≤ 120 → need ≤ S0.length → S0.length + peak ≤ 16 → ∀ m' e' A', xm_R s m' 1 A' → am_sN sz op num cost (q, S0, R, I, O, W0) A' → post (mk_S c m' e' b x d))
    (hfit : ∀ cost need peak, gb_blockCost b i = nI cost → gb_blockNeed b i = nI need → gb_blockPeak b i = nI peak → need ≤ 100 → peak ≤ 120 → need ≤ S0.length ∧ S0.length + peak ≤ 16) : wpX_runBlock post (mk_S c m e b x d) (nI i) := by
  obtain ⟨g, Lk, F, cost, need, peak, nx, test, ⟨a1, a2, a3, a4, a5, a6, a7, a8, a9, a10, a11⟩, ⟨c1, c2, c3, c4⟩, t0, t1, hr, hs, hmv, hF, hc⟩ := hbl
  obtain ⟨n1, n2⟩ := hfit cost need peak c1 c2 c3 a5 a6
  have vi : vp_in (nI i) 41 := pk_in i 41 hi
  have ci : (nI i).toNatClampNeg = i := pk_cl i
  have e1 : nI i + 1 = nI (i + 1) := nI_1 i
  refine And.intro vi (nm_r (e' := nI need) ?_ ⟨need + 1, ?_⟩)
  · show gb_blockNeed b (nI i).toNatClampNeg = _
    rw [ci]; exact c2
  refine xo_9 (e := e) n1 hl h.1.2.2.1 h.1.2.2.2.2.2.2.1 (fun ov hov => ?_) need 0 (ge_oldValues e) (by omega) (fun j hj => absurd hj (Nat.not_lt_zero _))
  refine br_t (nI_le (Nat.le_refl _) (by omega)) (And.intro (pk_in i 42 (by omega)) (nm_r (e' := nI (mf + 0)) ?_ ⟨Lk + 1, ?_⟩))
  · show gb_microFrom b (nI i).toNatClampNeg = _
    rw [ci]; exact f1
  refine xp_46 (s := s) (p := q) (S0 := S0) (R := R) (I := I) (O := O) (mf := mf) (Lk := Lk) (nc := nc) (need := need) (g := g) (old := tv_old S0) (ov := ov) (W0 := W0) hi a10 (by omega) (by omega) (by rw [f2, a1]) hmv hr hov (ge_tempValues e, W0) (fun m' e' q1 q2 q3 => ?_) Lk 0 m ((ov, ge_tempValues e)) (by omega) rfl rfl h
  have hbl : (S0.drop need).length = S0.length - need := List.length_drop ..
  obtain ⟨W1, w1, w2⟩ := hc (gx_constant x) (fun _ _ => rfl) S0 R I O W0 n1 n2 (ge_tempValues e, W0) (fun _ _ => rfl)
  refine And.intro (pk_in (i + 1) 42 (by omega) e1) (br_t ?_ (nm_r (e' := nI (S0.length - need)) ?_ (And.intro (pk_in i 42 (by omega)) (nm_r (e' := nI ff) ?_ (And.intro (pk_in (i + 1) 42 (by omega) e1) (nm_r (e' := nI F.length) ?_ ⟨F.length + 1, ?_⟩))))))
  · show gb_microFrom b (nI i + 1).toNatClampNeg ≤ _
    rw [pk_cl (i + 1) e1, f2, a1]; exact nI_le (Nat.le_refl _) (by omega)
  · show gm_stackSize m' - nI need = _
    rw [q3.1.2.2.1, pk_sub n1]
  · show gb_finalFrom b (nI i).toNatClampNeg = _
    rw [ci]; exact f3
  · show gb_finalFrom b (nI i + 1).toNatClampNeg - nI ff = _
    rw [pk_cl (i + 1) e1, f4, a2, pk_sub (by omega)]; exact congrArg nI (by omega)
  · refine xo_100 (s := s) (p := q) (R := R) (I := I) (O := O) (W := (mr_run (gx_constant x) (tv_old S0) g Lk (ge_tempValues e, W0)).2) (e := e') (m := m') (nc := nc) (need := need) (nx := nx) (S0 := S0) (old := tv_old S0) (test := test) hi a10 (by omega) hbl.symm (by omega) (by omega) hF hs (fun j hj => by rw [q1]; exact hov j hj) q3.1 q3.2 c4 t0 t1 (fun m2 h2 => ?_) F.length 0 (gm_stack m') (by omega) (fun _ _ => rfl) (fun j hj => absurd hj (Nat.not_lt_zero _))
    rw [q2] at h2
    refine kk cost need peak c1 c2 c3 a3 a4 a5 a6 n1 n2 m2 e' (bc_pc (tv_v (gx_constant x) (tv_old S0) (mr_run (gx_constant x) (tv_old S0) g Lk (ge_tempValues e, W0)).1) nx test, tv_S (tv_v (gx_constant x) (tv_old S0) (mr_run (gx_constant x) (tv_old S0) g Lk (ge_tempValues e, W0)).1) S0 F need, R, I, O, W1) ?_ w2
    obtain ⟨⟨z0, z1, z2, z3, z4, z5, zs, zr, zi, zo, zw⟩, zch⟩ := h2
    exact ⟨⟨z0, z1, z2, z3, z4, z5, zs, zr, zi, zo, fun n hn => (zw n hn).trans (w1 n hn)⟩, zch⟩
end XP

theorem am_ok_sN {sz : Nat} {op : Nat → Nat} {num : Nat → Int32} (hcode : am_code sz op num) : ∀ (k : Nat) (A B : am_T), am_sN sz op num k A B → am_ok A → am_ok B := by
  intro k
  induction k with
  | zero => intro A B h ok; cases h; exact ok
  | succ k ih =>
    intro A B ⟨C, hC, h1, h2, h3, h4⟩ ok
    have okC := ih A C hC ok
    have hcp := hcode.2 C.1 h1
    rw [h4]
    exact am_ok_go hcp.1 hcp.2 h1 hcode.1 okC (am_hi_can h2)
section XQ
variable {s : Nat → Int32} {c : ty_C} {b : ty_B} {x : ty_X} {d : ty_D} {sz : Nat} {op : Nat → Nat} {num : Nat → Int32} {post : Int32 → SX → Prop}
theorem xq_off {m : ty_M} {e : ty_E} {lim cnt : Int32} (n : Nat) (h : ¬ gm_status m = 1) (k : post cnt (mk_S c m e b x d)) : lo_step_25 post lim (n + 1) cnt c m e b x d :=
  br_c (fun _ => k) (fun _ => br_f h k)
theorem xq_loop (hcode : am_code sz op num) (hC : cx_R c sz op num) (htk : tk_R sz op num b x) (lim : Nat) (hlim : lim ≤ 300) :
    ∀ (B g cnt n : Nat) (m : ty_M) (e : ty_E) (A : am_T), g ≤ B → g + 2 ≤ n → cnt + g = lim → am_ok A → xm_R s m 1 A →
    (∀ m' e', xm_R s m' (am_run sz op num g A).2.2 (am_run sz op num g A).2.1 → am_ok (am_run sz op num g A).2.1 → post (nI (cnt + (am_run sz op num g A).1)) (mk_S c m' e' b x d)) →
    lo_step_25 post (nI lim) n (nI cnt) c m e b x d := by
  have hsz := hcode.1
  have hC0 := hC
  obtain ⟨hz, ho, hnu⟩ := hC0
  intro B
  induction B with
  | zero =>
    intro g cnt n m e A hg hn hc ok h K
    obtain ⟨n, rfl⟩ : ∃ k, n = k + 1 := ⟨n - 1, by omega⟩
    have e0 : g = 0 := by omega
    subst e0
    exact br_t (nI_le (by omega) (by omega)) (K m e h ok)
  | succ B ih =>
    intro g cnt n m e A hg hn hc ok h K
    obtain ⟨n, rfl⟩ : ∃ k, n = k + 1 := ⟨n - 1, by omega⟩
    cases g with
    | zero => exact br_t (nI_le (by omega) (by omega)) (K m e h ok)
    | succ g =>
      obtain ⟨n', rfl⟩ : ∃ k, n = k + 1 := ⟨n - 1, by omega⟩
      -- a single step
      have hsingle : wpX_singleStep (fun r u => match u with | (f_size, f_status, f_at, f_stackSize, f_returnSize, f_inputSize, f_outputSize, f_blocks, f_micros, f_finals, f_constants, f_newSize, f_taken, f_peak, f_temps, f_root, f_changedPages, f_writesLeft, f_broken, a_ops, a_numbers, a_stack, a_returns, a_words, a_inputs, a_outs, a_blockAt, a_leads, a_blockCost, a_blockNeed, a_blockPeak, a_microFrom, a_finalFrom, a_blockNext, a_blockTest, a_blockTarget, a_microOp, a_microTarget, a_microA, a_microB, a_microUsed, a_finalOperand, a_constant, a_newStack, a_wordOperand, a_oldValues, a_tempValues, a_disk, a_roots, a_table, a_newTable, a_placeUsed, a_state) => (r = 0 → ∀ y, y = nI cnt + 0 → wX_step_25 post (nI lim) (n' + 1) y f_size f_status f_at f_stackSize f_returnSize f_inputSize f_outputSize f_blocks f_micros f_finals f_constants f_newSize f_taken f_peak f_temps f_root f_changedPages f_writesLeft f_broken a_ops a_numbers a_stack a_returns a_words a_inputs a_outs a_blockAt a_leads a_blockCost a_blockNeed a_blockPeak a_microFrom a_finalFrom a_blockNext a_blockTest a_blockTarget a_microOp a_microTarget a_microA a_microB a_microUsed a_finalOperand a_constant a_newStack a_wordOperand a_oldValues a_tempValues a_disk a_roots a_table a_newTable a_placeUsed a_state) ∧ (¬ r = 0 → ∀ y, y = nI cnt + 1 → wX_step_25 post (nI lim) (n' + 1) y f_size f_status f_at f_stackSize f_returnSize f_inputSize f_outputSize f_blocks f_micros f_finals f_constants f_newSize f_taken f_peak f_temps f_root f_changedPages f_writesLeft f_broken a_ops a_numbers a_stack a_returns a_words a_inputs a_outs a_blockAt a_leads a_blockCost a_blockNeed a_blockPeak a_microFrom a_finalFrom a_blockNext a_blockTest a_blockTarget a_microOp a_microTarget a_microA a_microB a_microUsed a_finalOperand a_constant a_newStack a_wordOperand a_oldValues a_tempValues a_disk a_roots a_table a_newTable a_placeUsed a_state)) (mk_S c m e b x d) := by
        refine xs_single hcode hC ok h (fun z m' h' => ?_) (fun z z2 m' h' => ?_) (fun z z2 m' h' => ?_)
        · refine br_t rfl (nm_r (e' := nI cnt) (Int32.add_zero _) (xq_off (m := m') (e := e) n' (by rw [h'.1.1]; decide) ?_))
          rw [am_run, if_pos z] at K
          exact K m' e h' ok
        · refine br_t rfl (nm_r (e' := nI cnt) (Int32.add_zero _) (xq_off (m := m') (e := e) n' (by rw [h'.1.1]; exact z2) ?_))
          rw [am_run, if_neg (by omega), if_pos z2] at K
          exact K m' e h' ok
        · refine br_f (by decide) (nm_r (e' := nI (cnt + 1)) (nI_1 cnt) ?_)
          have hcp := hcode.2 A.1 z
          have ok' := am_ok_go hcp.1 hcp.2 z hsz ok (am_hi_can z2)
          rw [am_run, if_neg (by omega), if_neg (fun q => q z2)] at K
          by_cases h24 : op A.1 = 24
          · rw [if_pos h24] at K
            rw [h24] at h' ok'
            exact xq_off (m := m') (e := e) n' (by rw [h'.1.1]; decide) (K m' e h' ok')
          · rw [if_neg h24] at K
            have est : am_st (op A.1) = 1 := if_neg h24
            rw [est] at h'
            refine ih g (cnt + 1) (n' + 1) m' e (am_go (op A.1) (num A.1) A) (by omega) (by omega) (by omega) ok' h' (fun m2 e2 h2 ok2 => ?_)
            have e1 : cnt + 1 + (am_run sz op num g (am_go (op A.1) (num A.1) A)).1 = cnt + ((am_run sz op num g (am_go (op A.1) (num A.1) A)).1 + 1) := by omega
            rw [e1]
            exact K m2 e2 h2 ok2
      have h62 : ∀ z0 : Int32, (z0 = -1 ∨ (A.1 < sz ∧ z0 = gb_blockAt b A.1)) → lo_step_62 post (fun y u => wX_step_25 post (nI lim) (n' + 1) y u.1 u.2.1 u.2.2.1 u.2.2.2.1 u.2.2.2.2.1 u.2.2.2.2.2.1 u.2.2.2.2.2.2.1 u.2.2.2.2.2.2.2.1 u.2.2.2.2.2.2.2.2.1 u.2.2.2.2.2.2.2.2.2.1 u.2.2.2.2.2.2.2.2.2.2.1 u.2.2.2.2.2.2.2.2.2.2.2.1 u.2.2.2.2.2.2.2.2.2.2.2.2.1 u.2.2.2.2.2.2.2.2.2.2.2.2.2.1 u.2.2.2.2.2.2.2.2.2.2.2.2.2.2.1 u.2.2.2.2.2.2.2.2.2.2.2.2.2.2.2.1 u.2.2.2.2.2.2.2.2.2.2.2.2.2.2.2.2.1 u.2.2.2.2.2.2.2.2.2.2.2.2.2.2.2.2.2.1 u.2.2.2.2.2.2.2.2.2.2.2.2.2.2.2.2.2.2.1 u.2.2.2.2.2.2.2.2.2.2.2.2.2.2.2.2.2.2.2.1 u.2.2.2.2.2.2.2.2.2.2.2.2.2.2.2.2.2.2.2.2.1 u.2.2.2.2.2.2.2.2.2.2.2.2.2.2.2.2.2.2.2.2.2.1 u.2.2.2.2.2.2.2.2.2.2.2.2.2.2.2.2.2.2.2.2.2.2.1 u.2.2.2.2.2.2.2.2.2.2.2.2.2.2.2.2.2.2.2.2.2.2.2.1 u.2.2.2.2.2.2.2.2.2.2.2.2.2.2.2.2.2.2.2.2.2.2.2.2.1 u.2.2.2.2.2.2.2.2.2.2.2.2.2.2.2.2.2.2.2.2.2.2.2.2.2.1 u.2.2.2.2.2.2.2.2.2.2.2.2.2.2.2.2.2.2.2.2.2.2.2.2.2.2.1 u.2.2.2.2.2.2.2.2.2.2.2.2.2.2.2.2.2.2.2.2.2.2.2.2.2.2.2.1 u.2.2.2.2.2.2.2.2.2.2.2.2.2.2.2.2.2.2.2.2.2.2.2.2.2.2.2.2.1 u.2.2.2.2.2.2.2.2.2.2.2.2.2.2.2.2.2.2.2.2.2.2.2.2.2.2.2.2.2.1 u.2.2.2.2.2.2.2.2.2.2.2.2.2.2.2.2.2.2.2.2.2.2.2.2.2.2.2.2.2.2.1 u.2.2.2.2.2.2.2.2.2.2.2.2.2.2.2.2.2.2.2.2.2.2.2.2.2.2.2.2.2.2.2.1 u.2.2.2.2.2.2.2.2.2.2.2.2.2.2.2.2.2.2.2.2.2.2.2.2.2.2.2.2.2.2.2.2.1 u.2.2.2.2.2.2.2.2.2.2.2.2.2.2.2.2.2.2.2.2.2.2.2.2.2.2.2.2.2.2.2.2.2.1 u.2.2.2.2.2.2.2.2.2.2.2.2.2.2.2.2.2.2.2.2.2.2.2.2.2.2.2.2.2.2.2.2.2.2.1 u.2.2.2.2.2.2.2.2.2.2.2.2.2.2.2.2.2.2.2.2.2.2.2.2.2.2.2.2.2.2.2.2.2.2.2.1 u.2.2.2.2.2.2.2.2.2.2.2.2.2.2.2.2.2.2.2.2.2.2.2.2.2.2.2.2.2.2.2.2.2.2.2.2.1 u.2.2.2.2.2.2.2.2.2.2.2.2.2.2.2.2.2.2.2.2.2.2.2.2.2.2.2.2.2.2.2.2.2.2.2.2.2.1 u.2.2.2.2.2.2.2.2.2.2.2.2.2.2.2.2.2.2.2.2.2.2.2.2.2.2.2.2.2.2.2.2.2.2.2.2.2.2.1 u.2.2.2.2.2.2.2.2.2.2.2.2.2.2.2.2.2.2.2.2.2.2.2.2.2.2.2.2.2.2.2.2.2.2.2.2.2.2.2.1 u.2.2.2.2.2.2.2.2.2.2.2.2.2.2.2.2.2.2.2.2.2.2.2.2.2.2.2.2.2.2.2.2.2.2.2.2.2.2.2.2.1 u.2.2.2.2.2.2.2.2.2.2.2.2.2.2.2.2.2.2.2.2.2.2.2.2.2.2.2.2.2.2.2.2.2.2.2.2.2.2.2.2.2.1 u.2.2.2.2.2.2.2.2.2.2.2.2.2.2.2.2.2.2.2.2.2.2.2.2.2.2.2.2.2.2.2.2.2.2.2.2.2.2.2.2.2.2.1 u.2.2.2.2.2.2.2.2.2.2.2.2.2.2.2.2.2.2.2.2.2.2.2.2.2.2.2.2.2.2.2.2.2.2.2.2.2.2.2.2.2.2.2.1 u.2.2.2.2.2.2.2.2.2.2.2.2.2.2.2.2.2.2.2.2.2.2.2.2.2.2.2.2.2.2.2.2.2.2.2.2.2.2.2.2.2.2.2.2.1 u.2.2.2.2.2.2.2.2.2.2.2.2.2.2.2.2.2.2.2.2.2.2.2.2.2.2.2.2.2.2.2.2.2.2.2.2.2.2.2.2.2.2.2.2.2.1 u.2.2.2.2.2.2.2.2.2.2.2.2.2.2.2.2.2.2.2.2.2.2.2.2.2.2.2.2.2.2.2.2.2.2.2.2.2.2.2.2.2.2.2.2.2.2.1 u.2.2.2.2.2.2.2.2.2.2.2.2.2.2.2.2.2.2.2.2.2.2.2.2.2.2.2.2.2.2.2.2.2.2.2.2.2.2.2.2.2.2.2.2.2.2.2.1 u.2.2.2.2.2.2.2.2.2.2.2.2.2.2.2.2.2.2.2.2.2.2.2.2.2.2.2.2.2.2.2.2.2.2.2.2.2.2.2.2.2.2.2.2.2.2.2.2.1 u.2.2.2.2.2.2.2.2.2.2.2.2.2.2.2.2.2.2.2.2.2.2.2.2.2.2.2.2.2.2.2.2.2.2.2.2.2.2.2.2.2.2.2.2.2.2.2.2.2.1 u.2.2.2.2.2.2.2.2.2.2.2.2.2.2.2.2.2.2.2.2.2.2.2.2.2.2.2.2.2.2.2.2.2.2.2.2.2.2.2.2.2.2.2.2.2.2.2.2.2.2.1 u.2.2.2.2.2.2.2.2.2.2.2.2.2.2.2.2.2.2.2.2.2.2.2.2.2.2.2.2.2.2.2.2.2.2.2.2.2.2.2.2.2.2.2.2.2.2.2.2.2.2.2.1 u.2.2.2.2.2.2.2.2.2.2.2.2.2.2.2.2.2.2.2.2.2.2.2.2.2.2.2.2.2.2.2.2.2.2.2.2.2.2.2.2.2.2.2.2.2.2.2.2.2.2.2.2) (nI lim) (nI cnt) z0 c m e b x d := by
        intro z0 hz0
        unfold lo_step_62 wX_step_62
        have hm1 : z0 = -1 → wpX_fits (fun r_6 => (((r_6 = 0 → (wpX_singleStep (fun r u => match u with | (f_size, f_status, f_at, f_stackSize, f_returnSize, f_inputSize, f_outputSize, f_blocks, f_micros, f_finals, f_constants, f_newSize, f_taken, f_peak, f_temps, f_root, f_changedPages, f_writesLeft, f_broken, a_ops, a_numbers, a_stack, a_returns, a_words, a_inputs, a_outs, a_blockAt, a_leads, a_blockCost, a_blockNeed, a_blockPeak, a_microFrom, a_finalFrom, a_blockNext, a_blockTest, a_blockTarget, a_microOp, a_microTarget, a_microA, a_microB, a_microUsed, a_finalOperand, a_constant, a_newStack, a_wordOperand, a_oldValues, a_tempValues, a_disk, a_roots, a_table, a_newTable, a_placeUsed, a_state) => (r = 0 → ∀ y, y = nI cnt + 0 → wX_step_25 post (nI lim) (n' + 1) y f_size f_status f_at f_stackSize f_returnSize f_inputSize f_outputSize f_blocks f_micros f_finals f_constants f_newSize f_taken f_peak f_temps f_root f_changedPages f_writesLeft f_broken a_ops a_numbers a_stack a_returns a_words a_inputs a_outs a_blockAt a_leads a_blockCost a_blockNeed a_blockPeak a_microFrom a_finalFrom a_blockNext a_blockTest a_blockTarget a_microOp a_microTarget a_microA a_microB a_microUsed a_finalOperand a_constant a_newStack a_wordOperand a_oldValues a_tempValues a_disk a_roots a_table a_newTable a_placeUsed a_state) ∧ (¬ r = 0 → ∀ y, y = nI cnt + 1 → wX_step_25 post (nI lim) (n' + 1) y f_size f_status f_at f_stackSize f_returnSize f_inputSize f_outputSize f_blocks f_micros f_finals f_constants f_newSize f_taken f_peak f_temps f_root f_changedPages f_writesLeft f_broken a_ops a_numbers a_stack a_returns a_words a_inputs a_outs a_blockAt a_leads a_blockCost a_blockNeed a_blockPeak a_microFrom a_finalFrom a_blockNext a_blockTest a_blockTarget a_microOp a_microTarget a_microA a_microB a_microUsed a_finalOperand a_constant a_newStack a_wordOperand a_oldValues a_tempValues a_disk a_roots a_table a_newTable a_placeUsed a_state)) (mk_S c m e b x d))) ∧ (¬ r_6 = 0 → (wpX_runBlock (fun u => match u with | (f_size, f_status, f_at, f_stackSize, f_returnSize, f_inputSize, f_outputSize, f_blocks, f_micros, f_finals, f_constants, f_newSize, f_taken, f_peak, f_temps, f_root, f_changedPages, f_writesLeft, f_broken, a_ops, a_numbers, a_stack, a_returns, a_words, a_inputs, a_outs, a_blockAt, a_leads, a_blockCost, a_blockNeed, a_blockPeak, a_microFrom, a_finalFrom, a_blockNext, a_blockTest, a_blockTarget, a_microOp, a_microTarget, a_microA, a_microB, a_microUsed, a_finalOperand, a_constant, a_newStack, a_wordOperand, a_oldValues, a_tempValues, a_disk, a_roots, a_table, a_newTable, a_placeUsed, a_state) => (vp_in z0 41 ∧ (∀ y : Int32, y = nI cnt + (a_blockCost z0.toNatClampNeg) → (wX_step_25 post (nI lim) (n' + 1) y f_size f_status f_at f_stackSize f_returnSize f_inputSize f_outputSize f_blocks f_micros f_finals f_constants f_newSize f_taken f_peak f_temps f_root f_changedPages f_writesLeft f_broken a_ops a_numbers a_stack a_returns a_words a_inputs a_outs a_blockAt a_leads a_blockCost a_blockNeed a_blockPeak a_microFrom a_finalFrom a_blockNext a_blockTest a_blockTarget a_microOp a_microTarget a_microA a_microB a_microUsed a_finalOperand a_constant a_newStack a_wordOperand a_oldValues a_tempValues a_disk a_roots a_table a_newTable a_placeUsed a_state)))) (mk_S c m e b x d) z0))))) (mk_S c m e b x d) z0 (nI lim - nI cnt) := by
          intro q
          rw [q]
          exact br_t (by decide) (br_t rfl hsingle)
        rcases hz0 with q | ⟨hA, q⟩
        · exact hm1 q
        · rcases htk A.1 hA with w | ⟨i, mf, me, ff, fe, nc, i1, i2, i3, i4, i5, i6, i7⟩
          · exact hm1 (q.trans w)
          · have i7' := i7
            obtain ⟨gg, Lk, F, cost, need, peak, nx, test, ⟨a1, a2, a3, a4, a5, a6, a7, a8, a9, a10, a11⟩, ⟨c1, c2, c3, c4⟩, -⟩ := i7'
            have qi : z0 = nI i := q.trans i2
            subst qi
            have vi : vp_in (nI i) 41 := pk_in i 41 i1
            have ci : (nI i).toNatClampNeg = i := pk_cl i
            have k1 : gb_blockCost b (nI i).toNatClampNeg = nI cost := by rw [ci]; exact c1
            have k2 : gb_blockNeed b (nI i).toNatClampNeg = nI need := by rw [ci]; exact c2
            have k3 : gb_blockPeak b (nI i).toNatClampNeg = nI peak := by rw [ci]; exact c3
            have el : nI lim - nI cnt = nI (g + 1) := by rw [pk_sub (by omega)]; exact congrArg nI (by omega)
            have hS := ok.2.1
            refine br_f (nI_pos (by omega)) (And.intro vi (pk_lt (g + 1) cost (fun _ => br_t rfl hsingle) (fun y1 => And.intro vi (pk_lt A.2.1.length need (fun _ => br_t rfl hsingle) (fun y2 => And.intro vi (pk_lt 16 (A.2.1.length + peak) (fun _ => br_t rfl hsingle) (fun y3 => br_f (by decide) ?_) rfl ?_)) h.1.2.2.1 k2)) el k1))
            · obtain ⟨p, S0, R, I, O, W0⟩ := A
              refine xp_block (c := c) (m := m) (e := e) (b := b) (x := x) (d := d) (sz := sz) (op := op) (num := num) i1 i3 i4 i5 i6 i7 hS h (fun cost' need' peak' d1 d2 d3 d4 d5 d6 d7 d8 d9 m' e' A' h' hN => And.intro vi ?_) (fun cost' need' peak' d1 d2 d3 d4 d5 => ?_)
              · have ec : cost' = cost := (nI_eq (by omega) (by omega)).mp (d1.symm.trans c1)
                subst ec
                refine nm_r (e' := nI (cnt + cost')) ?_ ?_
                · show nI cnt + gb_blockCost b (nI i).toNatClampNeg = _
                  rw [k1, nI_add]
                · have ok' := am_ok_sN hcode cost' _ _ hN ok
                  have er := am_run_sN cost' _ _ hN (g + 1 - cost')
                  rw [show g + 1 - cost' + cost' = g + 1 by omega] at er
                  rw [er] at K
                  refine ih (g + 1 - cost') (cnt + cost') (n' + 1) m' e' A' (by omega) (by omega) (by omega) ok' h' (fun m2 e2 h2 ok2 => ?_)
                  have e1 : cnt + cost' + (am_run sz op num (g + 1 - cost') A').1 = cnt + ((am_run sz op num (g + 1 - cost') A').1 + cost') := by omega
                  rw [e1]
                  exact K m2 e2 h2 ok2
              · have ed : need' = need := (nI_eq (by omega) (by omega)).mp (d2.symm.trans c2)
                have ep : peak' = peak := (nI_eq (by omega) (by omega)).mp (d3.symm.trans c3)
                subst ed ep
                exact ⟨y2, y3⟩
            · show gm_stackSize m + gb_blockPeak b (nI i).toNatClampNeg = _
              rw [k3, h.1.2.2.1, nI_add]
      have hp40 := ok.1
      refine br_f (nI_ge (by omega) (by omega)) (br_t h.1.1 (pk_le sz A.1 (fun z => h62 (-1) (Or.inl rfl)) (fun z => And.intro (pk_in A.1 41 (by omega) h.1.2.1) (h62 _ (Or.inr ⟨z, ?_⟩))) hz h.1.2.1))
      show gb_blockAt b (gm_at m).toNatClampNeg = _
      rw [pk_cl A.1 h.1.2.1]
end XQ
end
section
/-! the machine without its memory, packed into words of its own -/
def pk_R (z : Nat → Int32) (st : Int32) (A : am_T) : Prop := z 0 = st ∧ z 1 = nI A.1 ∧ z 2 = nI A.2.1.length ∧ sg_R z 3 A.2.1 ∧ z 19 = nI A.2.2.1.length ∧ sg_R z 20 (A.2.2.1.map nI) ∧ z 28 = nI A.2.2.2.1.length ∧ qu_R z 29 A.2.2.2.1 ∧ z 39 = nI A.2.2.2.2.1.length ∧ sg_R z 40 A.2.2.2.2.1
section XR
variable {c : ty_C} {m : ty_M} {e : ty_E} {b : ty_B} {x : ty_X} {d : ty_D} {post : SX → Prop}
theorem xr_178 {len : Nat} (hl : len ≤ 20) (hs : gm_outputSize m = nI len) (z0 : Nat → Int32)
    (kk : ∀ z', (∀ j, j < len → z' (40 + j) = gm_outs m j) → (∀ q, (q < 40 ∨ 40 + len ≤ q) → z' q = z0 q) → lo_packState_178 post 1 (nI len) c m e b x ((gd_root d, gd_writesLeft d, gd_broken d, gd_disk d, gd_roots d, gd_table d, gd_newTable d, gd_placeUsed d, z'))) :
    ∀ dd i z, i + dd = len → (∀ j, j < i → z (40 + j) = gm_outs m j) → (∀ q, (q < 40 ∨ 40 + len ≤ q) → z q = z0 q) → lo_packState_178 post (dd + 1) (nI i) c m e b x ((gd_root d, gd_writesLeft d, gd_broken d, gd_disk d, gd_roots d, gd_table d, gd_newTable d, gd_placeUsed d, z)) := by
  intro dd
  induction dd with
  | zero =>
    intro i z hi p1 p2
    have e0 : i = len := by omega
    subst e0
    exact kk z p1 p2
  | succ dd ih =>
    intro i z hi p1 p2
    have e1 : (40 : Int32) + nI i = nI (40 + i) := nI_add 40 i
    refine br_f ?_ (And.intro (pk_in i 20 (by omega)) (And.intro (pk_in (40 + i) 64 (by omega) e1) (nm_r (e' := upd z (40 + i) (gm_outs m i)) ?_ (nm_r (e' := nI (i + 1)) (nI_1 i) ?_))))
    · show ¬ gm_outputSize m ≤ _
      rw [hs]; exact nI_ge (by omega) (by omega)
    · show upd z ((40 : Int32) + nI i).toNatClampNeg (gm_outs m (nI i).toNatClampNeg) = _
      rw [pk_cl (40 + i) e1, pk_cl i]
    · refine ih (i + 1) (upd z (40 + i) (gm_outs m i)) (by omega) (fun j hj => ?_) (fun q hq => ?_)
      · by_cases w : j = i
        · subst w; exact pk_us
        · rw [pk_un (by omega)]; exact p1 j (by omega)
      · rw [pk_un (by omega)]; exact p2 q hq
theorem xr_136 {len : Nat} (hl : len ≤ 10) (hs : gm_inputSize m = nI len) (z0 : Nat → Int32)
    (kk : ∀ z', (∀ j, j < len → z' (29 + j) = gm_inputs m j) → (∀ q, (q < 29 ∨ 29 + len ≤ q) → z' q = z0 q) → lo_packState_136 post 1 (nI len) c m e b x ((gd_root d, gd_writesLeft d, gd_broken d, gd_disk d, gd_roots d, gd_table d, gd_newTable d, gd_placeUsed d, z'))) :
    ∀ dd i z, i + dd = len → (∀ j, j < i → z (29 + j) = gm_inputs m j) → (∀ q, (q < 29 ∨ 29 + len ≤ q) → z q = z0 q) → lo_packState_136 post (dd + 1) (nI i) c m e b x ((gd_root d, gd_writesLeft d, gd_broken d, gd_disk d, gd_roots d, gd_table d, gd_newTable d, gd_placeUsed d, z)) := by
  intro dd
  induction dd with
  | zero =>
    intro i z hi p1 p2
    have e0 : i = len := by omega
    subst e0
    exact kk z p1 p2
  | succ dd ih =>
    intro i z hi p1 p2
    have e1 : (29 : Int32) + nI i = nI (29 + i) := nI_add 29 i
    refine br_f ?_ (And.intro (pk_in i 10 (by omega)) (And.intro (pk_in (29 + i) 64 (by omega) e1) (nm_r (e' := upd z (29 + i) (gm_inputs m i)) ?_ (nm_r (e' := nI (i + 1)) (nI_1 i) ?_))))
    · show ¬ gm_inputSize m ≤ _
      rw [hs]; exact nI_ge (by omega) (by omega)
    · show upd z ((29 : Int32) + nI i).toNatClampNeg (gm_inputs m (nI i).toNatClampNeg) = _
      rw [pk_cl (29 + i) e1, pk_cl i]
    · refine ih (i + 1) (upd z (29 + i) (gm_inputs m i)) (by omega) (fun j hj => ?_) (fun q hq => ?_)
      · by_cases w : j = i
        · subst w; exact pk_us
        · rw [pk_un (by omega)]; exact p1 j (by omega)
      · rw [pk_un (by omega)]; exact p2 q hq
theorem xr_94 {len : Nat} (hl : len ≤ 8) (hs : gm_returnSize m = nI len) (z0 : Nat → Int32)
    (kk : ∀ z', (∀ j, j < len → z' (20 + j) = gm_returns m j) → (∀ q, (q < 20 ∨ 20 + len ≤ q) → z' q = z0 q) → lo_packState_94 post 1 (nI len) c m e b x ((gd_root d, gd_writesLeft d, gd_broken d, gd_disk d, gd_roots d, gd_table d, gd_newTable d, gd_placeUsed d, z'))) :
    ∀ dd i z, i + dd = len → (∀ j, j < i → z (20 + j) = gm_returns m j) → (∀ q, (q < 20 ∨ 20 + len ≤ q) → z q = z0 q) → lo_packState_94 post (dd + 1) (nI i) c m e b x ((gd_root d, gd_writesLeft d, gd_broken d, gd_disk d, gd_roots d, gd_table d, gd_newTable d, gd_placeUsed d, z)) := by
  intro dd
  induction dd with
  | zero =>
    intro i z hi p1 p2
    have e0 : i = len := by omega
    subst e0
    exact kk z p1 p2
  | succ dd ih =>
    intro i z hi p1 p2
    have e1 : (20 : Int32) + nI i = nI (20 + i) := nI_add 20 i
    refine br_f ?_ (And.intro (pk_in i 8 (by omega)) (And.intro (pk_in (20 + i) 64 (by omega) e1) (nm_r (e' := upd z (20 + i) (gm_returns m i)) ?_ (nm_r (e' := nI (i + 1)) (nI_1 i) ?_))))
    · show ¬ gm_returnSize m ≤ _
      rw [hs]; exact nI_ge (by omega) (by omega)
    · show upd z ((20 : Int32) + nI i).toNatClampNeg (gm_returns m (nI i).toNatClampNeg) = _
      rw [pk_cl (20 + i) e1, pk_cl i]
    · refine ih (i + 1) (upd z (20 + i) (gm_returns m i)) (by omega) (fun j hj => ?_) (fun q hq => ?_)
      · by_cases w : j = i
        · subst w; exact pk_us
        · rw [pk_un (by omega)]; exact p1 j (by omega)
      · rw [pk_un (by omega)]; exact p2 q hq
theorem xr_53 {len : Nat} (hl : len ≤ 16) (hs : gm_stackSize m = nI len) (z0 : Nat → Int32)
    (kk : ∀ z', (∀ j, j < len → z' (3 + j) = gm_stack m j) → (∀ q, (q < 3 ∨ 3 + len ≤ q) → z' q = z0 q) → lo_packState_53 post 1 (nI len) c m e b x ((gd_root d, gd_writesLeft d, gd_broken d, gd_disk d, gd_roots d, gd_table d, gd_newTable d, gd_placeUsed d, z'))) :
    ∀ dd i z, i + dd = len → (∀ j, j < i → z (3 + j) = gm_stack m j) → (∀ q, (q < 3 ∨ 3 + len ≤ q) → z q = z0 q) → lo_packState_53 post (dd + 1) (nI i) c m e b x ((gd_root d, gd_writesLeft d, gd_broken d, gd_disk d, gd_roots d, gd_table d, gd_newTable d, gd_placeUsed d, z)) := by
  intro dd
  induction dd with
  | zero =>
    intro i z hi p1 p2
    have e0 : i = len := by omega
    subst e0
    exact kk z p1 p2
  | succ dd ih =>
    intro i z hi p1 p2
    have e1 : (3 : Int32) + nI i = nI (3 + i) := nI_add 3 i
    refine br_f ?_ (And.intro (pk_in i 16 (by omega)) (And.intro (pk_in (3 + i) 64 (by omega) e1) (nm_r (e' := upd z (3 + i) (gm_stack m i)) ?_ (nm_r (e' := nI (i + 1)) (nI_1 i) ?_))))
    · show ¬ gm_stackSize m ≤ _
      rw [hs]; exact nI_ge (by omega) (by omega)
    · show upd z ((3 : Int32) + nI i).toNatClampNeg (gm_stack m (nI i).toNatClampNeg) = _
      rw [pk_cl (3 + i) e1, pk_cl i]
    · refine ih (i + 1) (upd z (3 + i) (gm_stack m i)) (by omega) (fun j hj => ?_) (fun q hq => ?_)
      · by_cases w : j = i
        · subst w; exact pk_us
        · rw [pk_un (by omega)]; exact p1 j (by omega)
      · rw [pk_un (by omega)]; exact p2 q hq
theorem xr_2 (kk : ∀ z', (∀ q, q < 64 → z' q = 0) → lo_packState_2 post 1 (nI 64) c m e b x ((gd_root d, gd_writesLeft d, gd_broken d, gd_disk d, gd_roots d, gd_table d, gd_newTable d, gd_placeUsed d, z'))) :
    ∀ dd i z, i + dd = 64 → (∀ q, q < i → z q = 0) → lo_packState_2 post (dd + 1) (nI i) c m e b x ((gd_root d, gd_writesLeft d, gd_broken d, gd_disk d, gd_roots d, gd_table d, gd_newTable d, gd_placeUsed d, z)) := by
  intro dd
  induction dd with
  | zero =>
    intro i z hi p
    have e0 : i = 64 := by omega
    subst e0
    exact kk z p
  | succ dd ih =>
    intro i z hi p
    refine br_f (nI_ge (b := 64) (by omega) (by decide)) (And.intro (pk_in i 64 (by omega)) (nm_r (e' := upd z i 0) ?_ (nm_r (e' := nI (i + 1)) (nI_1 i) ?_)))
    · show upd z (nI i).toNatClampNeg 0 = _
      rw [pk_cl i]
    · refine ih (i + 1) (upd z i 0) (by omega) (fun q hq => ?_)
      by_cases w : q = i
      · subst w; exact pk_us
      · rw [pk_un w]; exact p q (by omega)
theorem xr_pack {st : Int32} {A : am_T} (ok : am_ok A) (h : rx_R m st A) (kk : ∀ z, pk_R z st A → post (mk_S c m e b x ((gd_root d, gd_writesLeft d, gd_broken d, gd_disk d, gd_roots d, gd_table d, gd_newTable d, gd_placeUsed d, z)))) : wpX_packState post (mk_S c m e b x d) := by
  obtain ⟨p, S, R, I, O, W⟩ := A
  obtain ⟨g0, g1, g2, g3, g4, g5, gs, gr, gi, go, gw⟩ := h
  obtain ⟨o0, o1, o2, o3, o4, o5⟩ := ok
  dsimp only at g0 g1 g2 g3 g4 g5 gs gr gi go gw o0 o1 o2 o3 o4 o5
  have lr : (R.map nI).length = R.length := List.length_map _
  refine ⟨65, xr_2 (fun z0 _ => ?_) 64 0 (gd_state d) (by omega) (fun q hq => absurd hq (Nat.not_lt_zero _))⟩
  refine br_t (nI_le (a := 64) (Nat.le_refl _) (by decide)) (nm_e (nm_e (nm_e ⟨S.length + 1, ?_⟩)))
  refine xr_53 o1 g2 (upd (upd (upd z0 0 (gm_status m)) 1 (gm_at m)) 2 (gm_stackSize m)) (fun z1 p1 q1 => ?_) S.length 0 _ (by omega) (fun j hj => absurd hj (Nat.not_lt_zero _)) (fun _ _ => rfl)
  refine br_t (by show gm_stackSize m ≤ _; rw [g2]; exact nI_le (Nat.le_refl _) (by omega)) (nm_e ⟨R.length + 1, ?_⟩)
  refine xr_94 o2 g3 (upd z1 19 (gm_returnSize m)) (fun z2 p2 q2 => ?_) R.length 0 _ (by omega) (fun j hj => absurd hj (Nat.not_lt_zero _)) (fun _ _ => rfl)
  refine br_t (by show gm_returnSize m ≤ _; rw [g3]; exact nI_le (Nat.le_refl _) (by omega)) (nm_e ⟨I.length + 1, ?_⟩)
  refine xr_136 o3 g4 (upd z2 28 (gm_inputSize m)) (fun z3 p3 q3 => ?_) I.length 0 _ (by omega) (fun j hj => absurd hj (Nat.not_lt_zero _)) (fun _ _ => rfl)
  refine br_t (by show gm_inputSize m ≤ _; rw [g4]; exact nI_le (Nat.le_refl _) (by omega)) (nm_e ⟨O.length + 1, ?_⟩)
  refine xr_178 o4 g5 (upd z3 39 (gm_outputSize m)) (fun z4 p4 q4 => ?_) O.length 0 _ (by omega) (fun j hj => absurd hj (Nat.not_lt_zero _)) (fun _ _ => rfl)
  refine br_t (by show gm_outputSize m ≤ _; rw [g5]; exact nI_le (Nat.le_refl _) (by omega)) (kk z4 ?_)
  -- down to the writes
  have d3 : ∀ q, q < 39 → z4 q = z3 q := fun q hq => by rw [q4 q (by omega), pk_un (by omega)]
  have d2 : ∀ q, q < 28 → z3 q = z2 q := fun q hq => by rw [q3 q (by omega), pk_un (by omega)]
  have d1 : ∀ q, q < 19 → z2 q = z1 q := fun q hq => by rw [q2 q (by omega), pk_un (by omega)]
  refine ⟨?_, ?_, ?_, ?_, ?_, ?_, ?_, ?_, ?_, ?_⟩
  · rw [d3 0 (by omega), d2 0 (by omega), d1 0 (by omega), q1 0 (by omega), pk_un (by omega), pk_un (by omega), pk_us]; exact g0
  · rw [d3 1 (by omega), d2 1 (by omega), d1 1 (by omega), q1 1 (by omega), pk_un (by omega), pk_us]; exact g1
  · rw [d3 2 (by omega), d2 2 (by omega), d1 2 (by omega), q1 2 (by omega), pk_us]; exact g2
  · refine sg_mv (fun i hi => ?_) gs
    dsimp only at hi
    rw [d3 _ (by omega), d2 _ (by omega), d1 _ (by omega), p1 i hi, Nat.zero_add]
  · rw [d3 19 (by omega), d2 19 (by omega), q2 19 (by omega), pk_us]; exact g3
  · refine sg_mv (fun i hi => ?_) gr
    dsimp only at hi
    rw [d3 _ (by omega), d2 _ (by omega), p2 i (by omega), Nat.zero_add]
  · rw [d3 28 (by omega), q3 28 (by omega), pk_us]; exact g4
  · refine qu_mv (fun i hi => ?_) gi
    dsimp only at hi
    rw [d3 _ (by omega), p3 i (by omega), Nat.zero_add]
  · rw [q4 39 (by omega), pk_us]; exact g5
  · refine sg_mv (fun i hi => ?_) go
    dsimp only at hi
    rw [p4 i hi, Nat.zero_add]
theorem xu_152 (kk : ∀ f, (∀ j, j < 20 → f j = (gd_state d (40 + j))) → lo_unpackState_152 post 1 (nI 20) c ((gm_status m, gm_at m, gm_stackSize m, gm_returnSize m, gm_inputSize m, gm_outputSize m, gm_changedPages m, gm_stack m, gm_returns m, gm_words m, gm_inputs m, f)) e b x d) :
    ∀ dd i f, i + dd = 20 → (∀ j, j < i → f j = (gd_state d (40 + j))) → lo_unpackState_152 post (dd + 1) (nI i) c ((gm_status m, gm_at m, gm_stackSize m, gm_returnSize m, gm_inputSize m, gm_outputSize m, gm_changedPages m, gm_stack m, gm_returns m, gm_words m, gm_inputs m, f)) e b x d := by
  intro dd
  induction dd with
  | zero =>
    intro i f hi p1
    have e0 : i = 20 := by omega
    subst e0
    exact kk f p1
  | succ dd ih =>
    intro i f hi p1
    have e1 : (40 : Int32) + nI i = nI (40 + i) := nI_add 40 i
    refine br_f (nI_ge (b := 20) (by omega) (by decide)) (And.intro (pk_in (40 + i) 64 (by omega) e1) (And.intro (pk_in i 20 (by omega)) (nm_r (e' := upd f i (gd_state d (40 + i))) ?_ (nm_r (e' := nI (i + 1)) (nI_1 i) ?_))))
    · show upd f (nI i).toNatClampNeg (gd_state d ((40 : Int32) + nI i).toNatClampNeg) = _
      rw [pk_cl (40 + i) e1, pk_cl i]
    · refine ih (i + 1) (upd f i (gd_state d (40 + i))) (by omega) (fun j hj => ?_)
      by_cases w : j = i
      · subst w; exact pk_us
      · rw [pk_un w]; exact p1 j (by omega)
theorem xu_112 (kk : ∀ f, (∀ j, j < 10 → f j = (gd_state d (29 + j))) → lo_unpackState_112 post 1 (nI 10) c ((gm_status m, gm_at m, gm_stackSize m, gm_returnSize m, gm_inputSize m, gm_outputSize m, gm_changedPages m, gm_stack m, gm_returns m, gm_words m, f, gm_outs m)) e b x d) :
    ∀ dd i f, i + dd = 10 → (∀ j, j < i → f j = (gd_state d (29 + j))) → lo_unpackState_112 post (dd + 1) (nI i) c ((gm_status m, gm_at m, gm_stackSize m, gm_returnSize m, gm_inputSize m, gm_outputSize m, gm_changedPages m, gm_stack m, gm_returns m, gm_words m, f, gm_outs m)) e b x d := by
  intro dd
  induction dd with
  | zero =>
    intro i f hi p1
    have e0 : i = 10 := by omega
    subst e0
    exact kk f p1
  | succ dd ih =>
    intro i f hi p1
    have e1 : (29 : Int32) + nI i = nI (29 + i) := nI_add 29 i
    refine br_f (nI_ge (b := 10) (by omega) (by decide)) (And.intro (pk_in (29 + i) 64 (by omega) e1) (And.intro (pk_in i 10 (by omega)) (nm_r (e' := upd f i (gd_state d (29 + i))) ?_ (nm_r (e' := nI (i + 1)) (nI_1 i) ?_))))
    · show upd f (nI i).toNatClampNeg (gd_state d ((29 : Int32) + nI i).toNatClampNeg) = _
      rw [pk_cl (29 + i) e1, pk_cl i]
    · refine ih (i + 1) (upd f i (gd_state d (29 + i))) (by omega) (fun j hj => ?_)
      by_cases w : j = i
      · subst w; exact pk_us
      · rw [pk_un w]; exact p1 j (by omega)
theorem xu_71 (kk : ∀ f, (∀ j, j < 8 → f j = (vp_nar .byte (gd_state d (20 + j)).toInt8.toInt32)) → lo_unpackState_71 post 1 (nI 8) c ((gm_status m, gm_at m, gm_stackSize m, gm_returnSize m, gm_inputSize m, gm_outputSize m, gm_changedPages m, gm_stack m, f, gm_words m, gm_inputs m, gm_outs m)) e b x d) :
    ∀ dd i f, i + dd = 8 → (∀ j, j < i → f j = (vp_nar .byte (gd_state d (20 + j)).toInt8.toInt32)) → lo_unpackState_71 post (dd + 1) (nI i) c ((gm_status m, gm_at m, gm_stackSize m, gm_returnSize m, gm_inputSize m, gm_outputSize m, gm_changedPages m, gm_stack m, f, gm_words m, gm_inputs m, gm_outs m)) e b x d := by
  intro dd
  induction dd with
  | zero =>
    intro i f hi p1
    have e0 : i = 8 := by omega
    subst e0
    exact kk f p1
  | succ dd ih =>
    intro i f hi p1
    have e1 : (20 : Int32) + nI i = nI (20 + i) := nI_add 20 i
    refine br_f (nI_ge (b := 8) (by omega) (by decide)) (And.intro (pk_in (20 + i) 64 (by omega) e1) (And.intro (pk_in i 8 (by omega)) (nm_r (e' := upd f i (vp_nar .byte (gd_state d (20 + i)).toInt8.toInt32)) ?_ (nm_r (e' := nI (i + 1)) (nI_1 i) ?_))))
    · show upd f (nI i).toNatClampNeg (vp_nar .byte (gd_state d ((20 : Int32) + nI i).toNatClampNeg).toInt8.toInt32) = _
      rw [pk_cl (20 + i) e1, pk_cl i]
    · refine ih (i + 1) (upd f i (vp_nar .byte (gd_state d (20 + i)).toInt8.toInt32)) (by omega) (fun j hj => ?_)
      by_cases w : j = i
      · subst w; exact pk_us
      · rw [pk_un w]; exact p1 j (by omega)
theorem xu_32 (kk : ∀ f, (∀ j, j < 16 → f j = (gd_state d (3 + j))) → lo_unpackState_32 post 1 (nI 16) c ((gm_status m, gm_at m, gm_stackSize m, gm_returnSize m, gm_inputSize m, gm_outputSize m, gm_changedPages m, f, gm_returns m, gm_words m, gm_inputs m, gm_outs m)) e b x d) :
    ∀ dd i f, i + dd = 16 → (∀ j, j < i → f j = (gd_state d (3 + j))) → lo_unpackState_32 post (dd + 1) (nI i) c ((gm_status m, gm_at m, gm_stackSize m, gm_returnSize m, gm_inputSize m, gm_outputSize m, gm_changedPages m, f, gm_returns m, gm_words m, gm_inputs m, gm_outs m)) e b x d := by
  intro dd
  induction dd with
  | zero =>
    intro i f hi p1
    have e0 : i = 16 := by omega
    subst e0
    exact kk f p1
  | succ dd ih =>
    intro i f hi p1
    have e1 : (3 : Int32) + nI i = nI (3 + i) := nI_add 3 i
    refine br_f (nI_ge (b := 16) (by omega) (by decide)) (And.intro (pk_in (3 + i) 64 (by omega) e1) (And.intro (pk_in i 16 (by omega)) (nm_r (e' := upd f i (gd_state d (3 + i))) ?_ (nm_r (e' := nI (i + 1)) (nI_1 i) ?_))))
    · show upd f (nI i).toNatClampNeg (gd_state d ((3 : Int32) + nI i).toNatClampNeg) = _
      rw [pk_cl (3 + i) e1, pk_cl i]
    · refine ih (i + 1) (upd f i (gd_state d (3 + i))) (by omega) (fun j hj => ?_)
      by_cases w : j = i
      · subst w; exact pk_us
      · rw [pk_un w]; exact p1 j (by omega)
theorem xu_main {st : Int32} {A : am_T} (ok : am_ok A) (hz : pk_R (gd_state d) st A) (hw : ∀ i, i < 64 → gm_words m i = A.2.2.2.2.2 i) (kk : ∀ m', rx_R m' st A → gm_words m' = gm_words m → gm_changedPages m' = gm_changedPages m → post (mk_S c m' e b x d)) : wpX_unpackState post (mk_S c m e b x d) := by
  obtain ⟨p, S, R, I, O, W⟩ := A
  obtain ⟨g0, g1, g2, gs, g3, gr, g4, gi, g5, go⟩ := hz
  obtain ⟨o0, o1, o2, o3, o4, o5⟩ := ok
  dsimp only at g0 g1 g2 g3 g4 g5 gs gr gi go hw o0 o1 o2 o3 o4 o5
  have lr : (R.map nI).length = R.length := List.length_map _
  refine nm_r (e' := st) g0 (nm_r (e' := nI p) g1 (nm_r (e' := nI S.length) g2 ⟨17, ?_⟩))
  refine xu_32 (m := (st, nI p, nI S.length, gm_returnSize m, gm_inputSize m, gm_outputSize m, gm_changedPages m, gm_stack m, gm_returns m, gm_words m, gm_inputs m, gm_outs m)) (fun f1 p1 => ?_) 16 0 (gm_stack m) (by omega) (fun j hj => absurd hj (Nat.not_lt_zero _))
  refine br_t (nI_le (a := 16) (Nat.le_refl _) (by decide)) (nm_r (e' := nI R.length) g3 ⟨9, ?_⟩)
  refine xu_71 (m := (st, nI p, nI S.length, nI R.length, gm_inputSize m, gm_outputSize m, gm_changedPages m, f1, gm_returns m, gm_words m, gm_inputs m, gm_outs m)) (fun f2 p2 => ?_) 8 0 (gm_returns m) (by omega) (fun j hj => absurd hj (Nat.not_lt_zero _))
  refine br_t (nI_le (a := 8) (Nat.le_refl _) (by decide)) (nm_r (e' := nI I.length) g4 ⟨11, ?_⟩)
  refine xu_112 (m := (st, nI p, nI S.length, nI R.length, nI I.length, gm_outputSize m, gm_changedPages m, f1, f2, gm_words m, gm_inputs m, gm_outs m)) (fun f3 p3 => ?_) 10 0 (gm_inputs m) (by omega) (fun j hj => absurd hj (Nat.not_lt_zero _))
  refine br_t (nI_le (a := 10) (Nat.le_refl _) (by decide)) (nm_r (e' := nI O.length) g5 ⟨21, ?_⟩)
  refine xu_152 (m := (st, nI p, nI S.length, nI R.length, nI I.length, nI O.length, gm_changedPages m, f1, f2, gm_words m, f3, gm_outs m)) (fun f4 p4 => ?_) 20 0 (gm_outs m) (by omega) (fun j hj => absurd hj (Nat.not_lt_zero _))
  refine br_t (nI_le (a := 20) (Nat.le_refl _) (by decide)) (kk ((st, nI p, nI S.length, nI R.length, nI I.length, nI O.length, gm_changedPages m, f1, f2, gm_words m, f3, f4)) ⟨rfl, rfl, rfl, rfl, rfl, rfl, ?_, ?_, ?_, ?_, hw⟩ rfl rfl)
  · refine sg_mv (fun i hi => ?_) gs
    dsimp only at hi
    show f1 (0 + i) = _
    rw [Nat.zero_add]; exact p1 i (by omega)
  · refine sg_mv (fun i hi => ?_) gr
    dsimp only at hi
    show f2 (0 + i) = _
    obtain ⟨r, hr, er⟩ := sg_el gr (show i < R.length by omega)
    have := o5 r hr
    rw [Nat.zero_add, p2 i (by omega), er, pk_vb, wi_b (by omega)]
  · refine qu_mv (fun i hi => ?_) gi
    dsimp only at hi
    show f3 (0 + i) = _
    rw [Nat.zero_add]; exact p3 i (by omega)
  · refine sg_mv (fun i hi => ?_) go
    dsimp only at hi
    show f4 (0 + i) = _
    rw [Nat.zero_add]; exact p4 i (by omega)
end XR
end
section
/-! places and pages -/
theorem ph_all : ∀ (n : Nat) (U : List Nat), (∀ v, v < n → v ∈ U) → n ≤ U.length := by
  intro n
  induction n with
  | zero => intro U _; exact Nat.zero_le _
  | succ n ih =>
    intro U h
    have hn := h n (Nat.lt_succ_self n)
    have h2 := ih (U.erase n) (fun v hv => (List.mem_erase_of_ne (by omega)).mpr (h v (by omega)))
    rw [List.length_erase_of_mem hn] at h2
    have h3 : 0 < U.length := List.length_pos_of_mem hn
    omega
/-- in a whole save every word can be written -/
def wm_R (Q : Prop) (d : ty_D) : Prop := Q → gd_writesLeft d = -1 ∧ gd_broken d = 0
/-- the places in use -/
def pu_R (pu : Nat → Int32) (U : List Nat) : Prop := (∀ v, v ∈ U → ¬ pu v = 0) ∧ (∀ v, v < 40 → ¬ pu v = 0 → v ∈ U)
/-- the words of a page: of memory, then of the packed state -/
def pg_c (w z : Nat → Int32) (g i : Nat) : Int32 := if g < 8 then w (g * 8 + i) else z ((g - 8) * 8 + i)
section XV
variable {c : ty_C} {m : ty_M} {e : ty_E} {b : ty_B} {x : ty_X} {d : ty_D} {Q : Prop}
theorem xv_can {post : Int32 → SX → Prop} (hw : wm_R Q d) (k : ∀ r wl bk, (Q → ¬ r = 0) → wm_R Q ((gd_root d, wl, bk, gd_disk d, gd_roots d, gd_table d, gd_newTable d, gd_placeUsed d, gd_state d)) → post r (mk_S c m e b x ((gd_root d, wl, bk, gd_disk d, gd_roots d, gd_table d, gd_newTable d, gd_placeUsed d, gd_state d)))) : wpX_canWrite post (mk_S c m e b x d) := by
  have h32 : ∀ wl bk, wm_R Q ((gd_root d, wl, bk, gd_disk d, gd_roots d, gd_table d, gd_newTable d, gd_placeUsed d, gd_state d)) → lo_canWrite_32 post c m e b x ((gd_root d, wl, bk, gd_disk d, gd_roots d, gd_table d, gd_newTable d, gd_placeUsed d, gd_state d)) := by
    intro wl bk hw'
    refine br_c (fun z => k 1 wl bk (fun _ => by decide) hw') (fun z => k 0 wl bk (fun q => absurd (hw' q).2 z) hw')
  refine br_c (fun z => h32 (gd_writesLeft d) 1 (fun q => ?_)) (fun z => br_c (fun y => h32 (gd_writesLeft d) (gd_broken d) hw) (fun y => nm_e (h32 (gd_writesLeft d - 1) (gd_broken d) (fun q => ?_))))
  · have z' : gd_writesLeft d = 0 := z
    rw [(hw q).1] at z'
    exact absurd z' (by decide)
  · have y' : ¬ gd_writesLeft d ≤ 0 := y
    rw [(hw q).1] at y'
    exact absurd (show (-1 : Int32) ≤ 0 by decide) y'
theorem xv_free {post : Int32 → SX → Prop} {U : List Nat} (hU : U.length ≤ 38) (hp : pu_R (gd_placeUsed d) U) (k : ∀ v, v < 40 → v ∉ U → post (nI v) (mk_S c m e b x ((gd_root d, gd_writesLeft d, gd_broken d, gd_disk d, gd_roots d, gd_table d, gd_newTable d, upd (gd_placeUsed d) v 1, gd_state d)))) : wpX_freePlace post (mk_S c m e b x d) := by
  have loop : ∀ dd i, i + dd = 39 → (∀ v, v < i → v ∈ U) → lo_freePlace_2 post (dd + 1) (nI i) c m e b x d := by
    intro dd
    induction dd with
    | zero =>
      intro i hi h
      have := ph_all 39 U (fun v hv => h v (by omega))
      omega
    | succ dd ih =>
      intro i hi h
      have vi : vp_in (nI i) 40 := pk_in i 40 (by omega)
      have ci : gd_placeUsed d (nI i).toNatClampNeg = gd_placeUsed d i := by rw [pk_cl i]
      refine br_f (nI_ge (b := 39) (by omega) (by decide)) (And.intro vi (br_c (fun z => And.intro vi (nm_r (e' := upd (gd_placeUsed d) i 1) ?_ (k i (by omega) ?_))) (fun z => nm_r (e' := nI (i + 1)) (nI_1 i) (ih (i + 1) (by omega) (fun v hv => ?_)))))
      · show upd (gd_placeUsed d) (nI i).toNatClampNeg (vp_nar .boolean 1) = _
        rw [pk_cl i]; rfl
      · intro hu
        exact hp.1 i hu (ci.symm.trans z)
      · by_cases w : v = i
        · subst w
          exact hp.2 v (by omega) (fun q => z (ci.trans q))
        · exact h v (by omega)
  exact ⟨40, loop 39 0 (by omega) (fun v hv => absurd hv (Nat.not_lt_zero _))⟩
theorem xv_word {post : Int32 → Prop} {g i : Nat} (hg : g < 16) (hi : i < 8) (h : post (pg_c (gm_words m) (gd_state d) g i)) : wpX_pageWord post (mk_S c m e b x d) (nI g) (nI i) := by
  unfold pg_c at h
  have e1 : (nI g * 8) + nI i = nI (g * 8 + i) := by rw [show (8 : Int32) = nI 8 from rfl, pk_mul, nI_add]
  refine nm_r (e' := nI (g * 8 + i)) e1 (pk_le 8 g (fun z => ?_) (fun z => ?_))
  · rw [if_neg (by omega)] at h
    have e2 : nI (g * 8 + i) - 64 = nI ((g - 8) * 8 + i) := by
      rw [show (64 : Int32) = nI 64 from rfl, pk_sub (by omega)]; exact congrArg nI (by omega)
    refine And.intro (pk_in ((g - 8) * 8 + i) 64 (by omega) e2) ?_
    show post (gd_state d (nI (g * 8 + i) - 64).toNatClampNeg)
    rw [pk_cl ((g - 8) * 8 + i) e2]; exact h
  · rw [if_pos z] at h
    refine And.intro (pk_in (g * 8 + i) 64 (by omega)) ?_
    show post (gm_words m (nI (g * 8 + i)).toNatClampNeg)
    rw [pk_cl (g * 8 + i)]; exact h
/-- a page that is not changed is on disk as it is -/
theorem xv_changed {post : Int32 → Prop} {g : Nat} {t : Nat → Nat} (hg : g < 16) (ht : t g < 40) (htb : gd_table d g = nI (t g)) (k1 : post 1)
    (k0 : ((gm_changedPages m >>> (nI g &&& 31)) &&& 1) = 0 → (8 ≤ g → ∀ i, i < 8 → gd_disk d (t g * 8 + i) = pg_c (gm_words m) (gd_state d) g i) → post 0) : wpX_isChanged post (mk_S c m e b x d) (nI g) := by
  refine br_c (fun hb => ⟨9, ?_⟩) (fun _ => k1)
  have hb' : ((gm_changedPages m >>> (nI g &&& 31)) &&& 1) = 0 := hb
  have n1 : narrow .boolean (.int (1 : Int32)) = .int 1 := rfl
  have n0 : narrow .boolean (.int (0 : Int32)) = .int 0 := rfl
  by_cases h8 : 8 ≤ g
  · have loop : ∀ dd i (f : Int32), i + dd = 8 → (f = 1 ∨ (f = 0 ∧ ∀ j, j < i → gd_disk d (t g * 8 + j) = pg_c (gm_words m) (gd_state d) g j)) → lo_isChanged_17 post (nI g) (dd + 1) f (nI i) c m e b x d := by
      intro dd
      induction dd with
      | zero =>
        intro i f hi hf
        refine br_t (nI_le (a := 8) (by omega) (by omega)) ?_
        rcases hf with rfl | ⟨rfl, hf⟩
        · exact And.intro n1 k1
        · exact And.intro n0 (k0 hb' (fun _ j hj => hf j (by omega)))
      | succ dd ih =>
        intro i f hi hf
        have vg : vp_in (nI g) 16 := pk_in g 16 hg
        have et : gd_table d (nI g).toNatClampNeg = nI (t g) := by rw [pk_cl g]; exact htb
        have ea : (gd_table d (nI g).toNatClampNeg * 8) + nI i = nI (t g * 8 + i) := by rw [et, show (8 : Int32) = nI 8 from rfl, pk_mul, nI_add]
        refine br_f (nI_ge (b := 8) (by omega) (by decide)) (br_f (nI_nlt (b := 8) h8 (by omega)) ?_)
        refine xv_word (c := c) (m := m) (e := e) (b := b) (x := x) (d := d) hg (by omega) ?_
        refine br_c (fun z => And.intro vg (And.intro (pk_in (t g * 8 + i) 320 (by omega) ea) (br_c (fun y => nm_r (e' := nI (i + 1)) (nI_1 i) (ih (i + 1) 0 (by omega) (Or.inr ⟨rfl, fun j hj => ?_⟩))) (fun y => nm_r (e' := nI (i + 1)) (nI_1 i) (ih (i + 1) 1 (by omega) (Or.inl rfl)))))) (fun z => nm_r (e' := nI (i + 1)) (nI_1 i) (ih (i + 1) 1 (by omega) (Or.inl rfl)))
        rcases hf with rfl | ⟨_, hf⟩
        · exact absurd z (by decide)
        · by_cases w : j = i
          · subst w
            have y' : gd_disk d ((gd_table d (nI g).toNatClampNeg * 8) + nI j).toNatClampNeg = _ := y
            rw [pk_cl (t g * 8 + j) ea] at y'
            exact y'
          · exact hf j (by omega)
    exact loop 8 0 0 (by omega) (Or.inr ⟨rfl, fun j hj => absurd hj (Nat.not_lt_zero _)⟩)
  · exact br_f (nI_ge (b := 8) (a := 0) (by decide) (by decide)) (br_t (nI_lt (b := 8) (by omega) (by decide)) (And.intro n0 (k0 hb' (fun q => absurd q h8))))
/-- a page is written to a place that nobody uses -/
theorem xv_page {post : SX → Prop} {g : Nat} {U : List Nat} (hg : g < 16) (hU : U.length ≤ 38) (hp : pu_R (gd_placeUsed d) U) (hw : wm_R Q d)
    (k : ∀ v dk wl bk, v < 40 → v ∉ U → (∀ q, (q < v * 8 ∨ v * 8 + 8 ≤ q) → dk q = gd_disk d q) → (Q → ∀ i, i < 8 → dk (v * 8 + i) = pg_c (gm_words m) (gd_state d) g i) →
      wm_R Q ((gd_root d, wl, bk, gd_disk d, gd_roots d, gd_table d, gd_newTable d, gd_placeUsed d, gd_state d)) → post (mk_S c m e b x ((gd_root d, wl, bk, dk, gd_roots d, gd_table d, upd (gd_newTable d) g (nI v), upd (gd_placeUsed d) v 1, gd_state d)))) : wpX_writePage post (mk_S c m e b x d) (nI g) := by
  unfold wpX_writePage mk_S; dsimp only
  refine xv_free (c := c) (m := m) (e := e) (b := b) (x := x) (d := d) hU hp (fun v hv hvU => ⟨9, ?_⟩)
  have loop : ∀ dd i dk wl bk, i + dd = 8 → (∀ q, (q < v * 8 ∨ v * 8 + 8 ≤ q) → dk q = gd_disk d q) → (Q → ∀ j, j < i → dk (v * 8 + j) = pg_c (gm_words m) (gd_state d) g j) → wm_R Q ((gd_root d, wl, bk, gd_disk d, gd_roots d, gd_table d, gd_newTable d, gd_placeUsed d, gd_state d)) →
      lo_writePage_7 post (nI g) (nI v) (dd + 1) (nI i) c m e b x ((gd_root d, wl, bk, dk, gd_roots d, gd_table d, gd_newTable d, upd (gd_placeUsed d) v 1, gd_state d)) := by
    intro dd
    induction dd with
    | zero =>
      intro i dk wl bk hi h1 h2 h3
      refine br_t (nI_le (a := 8) (by omega) (by omega)) (And.intro (pk_in g 16 hg) (nm_r (e' := upd (gd_newTable d) g (nI v)) ?_ (k v dk wl bk hv hvU h1 (fun q j hj => h2 q j (by omega)) h3)))
      show upd (gd_newTable d) (nI g).toNatClampNeg (vp_nar .byte (nI v).toInt8.toInt32) = _
      rw [pk_cl g, pk_vb, wi_b (by omega)]
    | succ dd ih =>
      intro i dk wl bk hi h1 h2 h3
      refine br_f (nI_ge (b := 8) (by omega) (by decide)) ?_
      refine xv_word (c := c) (m := m) (e := e) (b := b) (x := x) (d := (gd_root d, wl, bk, dk, gd_roots d, gd_table d, gd_newTable d, upd (gd_placeUsed d) v 1, gd_state d)) hg (by omega) ?_
      refine xv_can (c := c) (m := m) (e := e) (b := b) (x := x) (d := (gd_root d, wl, bk, dk, gd_roots d, gd_table d, gd_newTable d, upd (gd_placeUsed d) v 1, gd_state d)) (Q := Q) h3 (fun r wl' bk' hr h3' => ?_)
      have ea : (nI v * 8) + nI i = nI (v * 8 + i) := by rw [show (8 : Int32) = nI 8 from rfl, pk_mul, nI_add]
      refine br_c (fun z => nm_r (e' := nI (i + 1)) (nI_1 i) (ih (i + 1) dk wl' bk' (by omega) h1 (fun q => absurd z (hr q)) h3')) (fun z => And.intro (pk_in (v * 8 + i) 320 (by omega) ea) (nm_r (e' := upd dk (v * 8 + i) (pg_c (gm_words m) (gd_state d) g i)) ?_ (nm_r (e' := nI (i + 1)) (nI_1 i) (ih (i + 1) (upd dk (v * 8 + i) (pg_c (gm_words m) (gd_state d) g i)) wl' bk' (by omega) (fun q hq => ?_) (fun q j hj => ?_) h3'))))
      · show upd dk ((nI v * 8) + nI i).toNatClampNeg _ = _
        rw [pk_cl (v * 8 + i) ea]
      · rw [pk_un (by omega)]; exact h1 q hq
      · by_cases w : j = i
        · subst w; exact pk_us
        · rw [pk_un (by omega)]; exact h2 q j (by omega)
  exact loop 8 0 (gd_disk d) (gd_writesLeft d) (gd_broken d) (by omega) (fun _ _ => rfl) (fun _ j hj => absurd hj (Nat.not_lt_zero _)) hw
/-- a word of a root -/
theorem xv_root {post : SX → Prop} {sl i : Nat} {w : Int32} (hs : sl ≤ 1) (hi : i < 19) (hw : wm_R Q d)
    (k : ∀ ro wl bk, (∀ q, q ≠ sl * 19 + i → ro q = gd_roots d q) → (Q → ro (sl * 19 + i) = w) → wm_R Q ((gd_root d, wl, bk, gd_disk d, gd_roots d, gd_table d, gd_newTable d, gd_placeUsed d, gd_state d)) → post (mk_S c m e b x ((gd_root d, wl, bk, gd_disk d, ro, gd_table d, gd_newTable d, gd_placeUsed d, gd_state d)))) : wpX_writeRootWord post (mk_S c m e b x d) (nI sl) (nI i) w := by
  unfold wpX_writeRootWord mk_S; dsimp only
  refine xv_can (c := c) (m := m) (e := e) (b := b) (x := x) (d := d) (Q := Q) hw (fun r wl bk hr h3 => ?_)
  have ea : (nI sl * 19) + nI i = nI (sl * 19 + i) := by rw [show (19 : Int32) = nI 19 from rfl, pk_mul, nI_add]
  refine br_c (fun z => k (gd_roots d) wl bk (fun _ _ => rfl) (fun q => absurd z (hr q)) h3) (fun z => And.intro (pk_in (sl * 19 + i) 38 (by omega) ea) (nm_r (e' := upd (gd_roots d) (sl * 19 + i) w) ?_ (k (upd (gd_roots d) (sl * 19 + i) w) wl bk (fun q hq => pk_un hq) (fun _ => pk_us) h3)))
  show upd (gd_roots d) ((nI sl * 19) + nI i).toNatClampNeg w = _
  rw [pk_cl (sl * 19 + i) ea]
end XV
end
section
/-! the disk: roots, places, pages -/
def rs_sum (N : Nat) (t : Nat → Nat) : Nat → Int32
  | 0 => nI N
  | k + 1 => rs_sum N t k * 31 + nI (t k)
/-- root r is whole, with number N; s: the words saved, z: the packed state saved -/
def dk_R (d : ty_D) (N : Nat) (s z : Nat → Int32) : Prop := ∃ (r M : Nat) (t : Nat → Nat), r ≤ 1 ∧ gd_root d = nI r ∧ (∀ j, j < 16 → t j < 40 ∧ gd_table d j = nI (t j)) ∧
  (gd_roots d (r * 19) = nI N ∧ gd_roots d (r * 19 + 18) = nI N ∧ gd_roots d ((1 - r) * 19 + 18) = nI M ∧ M ≤ N ∧ (0 < N → M < N)) ∧
  (0 < N → (∀ j, j < 16 → gd_roots d (r * 19 + 1 + j) = nI (t j)) ∧ gd_roots d (r * 19 + 17) = rs_sum N t 16 ∧ ∀ g i, g < 16 → i < 8 → gd_disk d (t g * 8 + i) = pg_c s z g i)
section XY
variable {c : ty_C} {m : ty_M} {e : ty_E} {b : ty_B} {x : ty_X} {d : ty_D} {Q : Prop}
/-- the other root is written -/
theorem xy_root {post : SX → Prop} {r N : Nat} {t : Nat → Nat} {fl : Int32} (hr : r ≤ 1) (hN : N ≤ 100000) (hro : gd_root d = nI r) (h0 : gd_roots d (r * 19) = nI N) (ht : ∀ j, j < 16 → t j < 40 ∧ gd_newTable d j = nI (t j)) (hw : wm_R Q d) (hfl : Q → ¬ fl = 0)
    (k : ∀ ro wl bk, (∀ q, q < r * 19 ∨ r * 19 + 19 ≤ q → True) → (∀ q, r * 19 ≤ q → q < r * 19 + 19 → ro q = gd_roots d q) → (fl = 0 → ro ((1 - r) * 19 + 18) = gd_roots d ((1 - r) * 19 + 18)) →
      (Q → ro ((1 - r) * 19) = nI (N + 1) ∧ ro ((1 - r) * 19 + 18) = nI (N + 1) ∧ ro ((1 - r) * 19 + 17) = rs_sum (N + 1) t 16 ∧ ∀ j, j < 16 → ro ((1 - r) * 19 + 1 + j) = nI (t j)) →
      post (mk_S c m e b x ((gd_root d, wl, bk, gd_disk d, ro, gd_table d, gd_newTable d, gd_placeUsed d, gd_state d)))) : wpX_writeRoot post (mk_S c m e b x d) fl := by
  have e1 : (1 : Int32) - gd_root d = nI (1 - r) := by rw [hro, show (1 : Int32) = nI 1 from rfl, pk_sub hr]
  have e2 : gd_root d * 19 = nI (r * 19) := by rw [hro, show (19 : Int32) = nI 19 from rfl, pk_mul]
  refine nm_r (e' := nI (1 - r)) e1 (And.intro (pk_in (r * 19) 38 (by omega) e2) (nm_r (e' := nI (N + 1)) ?_ ?_))
  · show gd_roots d (gd_root d * 19).toNatClampNeg + 1 = _
    rw [pk_cl (r * 19) e2, h0, nI_1]
  have hsl : 1 - r ≤ 1 := by omega
  refine xv_root (c := c) (m := m) (e := e) (b := b) (x := x) (d := d) (Q := Q) (i := 0) hsl (by omega) hw (fun ro0 wl0 bk0 p1 p2 p3 => ⟨17, ?_⟩)
  have loop : ∀ dd j ro wl bk, j + dd = 16 → (∀ q, r * 19 ≤ q → q < r * 19 + 19 → ro q = gd_roots d q) → ro ((1 - r) * 19 + 18) = gd_roots d ((1 - r) * 19 + 18) → (Q → ro ((1 - r) * 19) = nI (N + 1) ∧ ∀ i, i < j → ro ((1 - r) * 19 + 1 + i) = nI (t i)) → wm_R Q ((gd_root d, wl, bk, gd_disk d, gd_roots d, gd_table d, gd_newTable d, gd_placeUsed d, gd_state d)) →
      lo_writeRoot_35 post fl (nI (1 - r)) (nI (N + 1)) (dd + 1) (rs_sum (N + 1) t j) (nI j) c m e b x ((gd_root d, wl, bk, gd_disk d, ro, gd_table d, gd_newTable d, gd_placeUsed d, gd_state d)) := by
    intro dd
    induction dd with
    | zero =>
      intro j ro wl bk hj a1 a2 a3 a4
      have ej : j = 16 := by omega
      subst ej
      refine br_t (nI_le (a := 16) (Nat.le_refl _) (by decide)) ?_
      refine xv_root (c := c) (m := m) (e := e) (b := b) (x := x) (d := (gd_root d, wl, bk, gd_disk d, ro, gd_table d, gd_newTable d, gd_placeUsed d, gd_state d)) (Q := Q) (i := 17) hsl (by omega) a4 (fun ro1 wl1 bk1 q1 q2 q3 => ?_)
      have q1' : ∀ q, q ≠ (1 - r) * 19 + 17 → ro1 q = ro q := q1
      refine br_c (fun z => ?_) (fun z => ?_)
      · refine k ro1 wl1 bk1 (fun _ _ => trivial) (fun q g1 g2 => ?_) (fun _ => ?_) (fun hq => absurd z (hfl hq))
        · rw [q1' q (by omega)]; exact a1 q g1 g2
        · rw [q1' _ (by omega)]; exact a2
      · refine xv_root (c := c) (m := m) (e := e) (b := b) (x := x) (d := (gd_root d, wl1, bk1, gd_disk d, ro1, gd_table d, gd_newTable d, gd_placeUsed d, gd_state d)) (Q := Q) (i := 18) hsl (by omega) q3 (fun ro2 wl2 bk2 s1 s2 s3 => ?_)
        have s1' : ∀ q, q ≠ (1 - r) * 19 + 18 → ro2 q = ro1 q := s1
        refine k ro2 wl2 bk2 (fun _ _ => trivial) (fun q g1 g2 => ?_) (fun q => absurd q z) (fun hq => ⟨?_, s2 hq, ?_, fun i hi => ?_⟩)
        · rw [s1' q (by omega), q1' q (by omega)]; exact a1 q g1 g2
        · rw [s1' _ (by omega), q1' _ (by omega)]; exact (a3 hq).1
        · rw [s1' _ (by omega)]; exact q2 hq
        · rw [s1' _ (by omega), q1' _ (by omega)]; exact (a3 hq).2 i hi
    | succ dd ih =>
      intro j ro wl bk hj a1 a2 a3 a4
      have vj : vp_in (nI j) 16 := pk_in j 16 (by omega)
      have et : gd_newTable d (nI j).toNatClampNeg = nI (t j) := by rw [pk_cl j]; exact (ht j (by omega)).2
      have e3 : (1 : Int32) + nI j = nI (1 + j) := nI_add 1 j
      refine br_f (nI_ge (b := 16) (by omega) (by decide)) (And.intro vj ?_)
      show wpX_writeRootWord _ (mk_S c m e b x ((gd_root d, wl, bk, gd_disk d, ro, gd_table d, gd_newTable d, gd_placeUsed d, gd_state d))) (nI (1 - r)) (1 + nI j) (gd_newTable d (nI j).toNatClampNeg)
      rw [et, e3]
      refine xv_root (c := c) (m := m) (e := e) (b := b) (x := x) (d := (gd_root d, wl, bk, gd_disk d, ro, gd_table d, gd_newTable d, gd_placeUsed d, gd_state d)) (Q := Q) (i := 1 + j) hsl (by omega) a4 (fun ro1 wl1 bk1 q1 q2 q3 => And.intro vj (nm_r (e' := rs_sum (N + 1) t (j + 1)) ?_ (nm_r (e' := nI (j + 1)) (nI_1 j) ?_)))
      · show (rs_sum (N + 1) t j * 31) + gd_newTable d (nI j).toNatClampNeg = _
        rw [et]; rfl
      · have q1' : ∀ q, q ≠ (1 - r) * 19 + (1 + j) → ro1 q = ro q := q1
        refine ih (j + 1) ro1 wl1 bk1 (by omega) (fun q g1 g2 => ?_) ?_ (fun hq => ⟨?_, fun i hi => ?_⟩) q3
        · rw [q1' q (by omega)]; exact a1 q g1 g2
        · rw [q1' _ (by omega)]; exact a2
        · rw [q1' _ (by omega)]; exact (a3 hq).1
        · by_cases w : i = j
          · subst w
            rw [show (1 - r) * 19 + 1 + i = (1 - r) * 19 + (1 + i) by omega]; exact q2 hq
          · rw [q1' _ (by omega)]; exact (a3 hq).2 i (by omega)
  refine loop 16 0 ro0 wl0 bk0 (by omega) (fun q g1 g2 => p1 q (by omega)) (p1 _ (by omega)) (fun hq => ⟨?_, fun i hi => absurd hi (Nat.not_lt_zero _)⟩) p3
  have := p2 hq
  rw [Nat.add_zero] at this
  exact this
end XY
end
section
section XZ
variable {c : ty_C} {m : ty_M} {e : ty_E} {b : ty_B} {x : ty_X} {d : ty_D} {Q : Prop} {post : Int32 → SX → Prop} {room : Int32}
theorem xz_16 (kk : ∀ pu, (∀ v, v < 40 → pu v = 0) → ∃ n, lo_writeAll_37 post room n (nI 0) c m e b x ((gd_root d, gd_writesLeft d, gd_broken d, gd_disk d, gd_roots d, gd_table d, gd_newTable d, pu, gd_state d))) :
    ∀ dd i pu, i + dd = 40 → (∀ v, v < i → pu v = 0) → lo_writeAll_16 post room (dd + 1) (nI i) c m e b x ((gd_root d, gd_writesLeft d, gd_broken d, gd_disk d, gd_roots d, gd_table d, gd_newTable d, pu, gd_state d)) := by
  intro dd
  induction dd with
  | zero =>
    intro i pu hi h
    exact br_t (nI_le (a := 40) (by omega) (by omega)) (kk pu (fun v hv => h v (by omega)))
  | succ dd ih =>
    intro i pu hi h
    refine br_f (nI_ge (b := 40) (by omega) (by decide)) (And.intro (pk_in i 40 (by omega)) (nm_r (e' := upd pu i 0) ?_ (nm_r (e' := nI (i + 1)) (nI_1 i) (ih (i + 1) (upd pu i 0) (by omega) (fun v hv => ?_)))))
    · show upd pu (nI i).toNatClampNeg (vp_nar .boolean 0) = _
      rw [pk_cl i]; rfl
    · by_cases w : v = i
      · subst w; exact pk_us
      · rw [pk_un w]; exact h v (by omega)
theorem xz_37 {t : Nat → Nat} (ht : ∀ j, j < 16 → t j < 40 ∧ gd_table d j = nI (t j))
    (kk : ∀ (pu nt : Nat → Int32) (U : List Nat), U.length ≤ 16 → pu_R pu U → (∀ j, j < 16 → t j ∈ U) → (∀ j, j < 16 → nt j = nI (t j)) → ∃ n, lo_writeAll_75 post room n (nI 0) c m e b x ((gd_root d, gd_writesLeft d, gd_broken d, gd_disk d, gd_roots d, gd_table d, nt, pu, gd_state d))) :
    ∀ (dd k : Nat) (pu nt : Nat → Int32) (U : List Nat), k + dd = 16 → U.length ≤ k → pu_R pu U → (∀ j, j < k → t j ∈ U) → (∀ j, j < k → nt j = nI (t j)) → lo_writeAll_37 post room (dd + 1) (nI k) c m e b x ((gd_root d, gd_writesLeft d, gd_broken d, gd_disk d, gd_roots d, gd_table d, nt, pu, gd_state d)) := by
  intro dd
  induction dd with
  | zero =>
    intro k pu nt U hk h1 h2 h3 h4
    exact br_t (nI_le (a := 16) (by omega) (by omega)) (kk pu nt U (by omega) h2 (fun j hj => h3 j (by omega)) (fun j hj => h4 j (by omega)))
  | succ dd ih =>
    intro k pu nt U hk h1 h2 h3 h4
    obtain ⟨t1, t2⟩ := ht k (by omega)
    have vk : vp_in (nI k) 16 := pk_in k 16 (by omega)
    have et : gd_table d (nI k).toNatClampNeg = nI (t k) := by rw [pk_cl k]; exact t2
    refine br_f (nI_ge (b := 16) (by omega) (by decide)) (And.intro vk (And.intro ?_ (nm_r (e' := upd pu (t k) 1) ?_ (And.intro vk (And.intro vk (nm_r (e' := upd nt k (nI (t k))) ?_ (nm_r (e' := nI (k + 1)) (nI_1 k) (ih (k + 1) (upd pu (t k) 1) (upd nt k (nI (t k))) (t k :: U) (by omega) (by rw [List.length_cons]; omega) ⟨fun v hv => ?_, fun v hv hu => ?_⟩ (fun j hj => ?_) (fun j hj => ?_)))))))))
    · show vp_in (gd_table d (nI k).toNatClampNeg) 40
      rw [et]; exact pk_in (t k) 40 t1
    · show upd pu (gd_table d (nI k).toNatClampNeg).toNatClampNeg (vp_nar .boolean 1) = _
      rw [et, pk_cl (t k)]; rfl
    · show upd nt (nI k).toNatClampNeg (vp_nar .byte (gd_table d (nI k).toNatClampNeg)) = _
      rw [et, pk_cl k, wi_bs (by omega)]
    · by_cases w : v = t k
      · rw [w, pk_us]; decide
      · rw [pk_un w]
        rcases List.mem_cons.mp hv with q | q
        · exact absurd q w
        · exact h2.1 v q
    · by_cases w : v = t k
      · rw [w]; exact List.mem_cons_self ..
      · rw [pk_un w] at hu; exact List.mem_cons_of_mem _ (h2.2 v hv hu)
    · by_cases w : j = k
      · rw [w]; exact List.mem_cons_self ..
      · exact List.mem_cons_of_mem _ (h3 j (by omega))
    · by_cases w : j = k
      · rw [w, pk_us]
      · rw [pk_un w]; exact h4 j (by omega)
/-- the pages that are changed are written; zf: whether the root is written whole -/
theorem xz_75 {t : Nat → Nat} (ht : ∀ j, j < 16 → t j < 40 ∧ gd_table d j = nI (t j))
    (hmem : ∀ g, g < 8 → ((gm_changedPages m >>> (nI g &&& 31)) &&& 1) = 0 → Q → ∀ i, i < 8 → gd_disk d (t g * 8 + i) = gm_words m (g * 8 + i))
    (kk : ∀ (pu nt dk : Nat → Int32) (wl bk : Int32) (t' : Nat → Nat), (∀ j, j < 16 → t' j < 40 ∧ nt j = nI (t' j)) → (∀ j i, j < 16 → i < 8 → dk (t j * 8 + i) = gd_disk d (t j * 8 + i)) → (Q → ∀ j i, j < 16 → i < 8 → dk (t' j * 8 + i) = pg_c (gm_words m) (gd_state d) j i) → wm_R Q ((gd_root d, wl, bk, gd_disk d, gd_roots d, gd_table d, gd_newTable d, gd_placeUsed d, gd_state d)) →
      lo_writeAll_75 post room 1 (nI 16) c m e b x ((gd_root d, wl, bk, dk, gd_roots d, gd_table d, nt, pu, gd_state d))) :
    ∀ (dd k : Nat) (pu nt dk : Nat → Int32) (wl bk : Int32) (U : List Nat) (t' : Nat → Nat), k + dd = 16 → U.length ≤ 16 + k → pu_R pu U → (∀ j, j < 16 → t j ∈ U) → (∀ j, j < 16 → t' j < 40 ∧ nt j = nI (t' j)) → (∀ j, k ≤ j → j < 16 → t' j = t j) → (∀ j i, j < 16 → i < 8 → dk (t j * 8 + i) = gd_disk d (t j * 8 + i)) →
      (∀ j, j < k → t' j ∈ U) → (Q → ∀ j i, j < k → i < 8 → dk (t' j * 8 + i) = pg_c (gm_words m) (gd_state d) j i) → wm_R Q ((gd_root d, wl, bk, gd_disk d, gd_roots d, gd_table d, gd_newTable d, gd_placeUsed d, gd_state d)) →
      lo_writeAll_75 post room (dd + 1) (nI k) c m e b x ((gd_root d, wl, bk, dk, gd_roots d, gd_table d, nt, pu, gd_state d)) := by
  intro dd
  induction dd with
  | zero =>
    intro k pu nt dk wl bk U t' hk h1 h2 h3 h4 h5 h6 h7 h8 h9
    have e0 : k = 16 := by omega
    subst e0
    exact kk pu nt dk wl bk t' h4 h6 h8 h9
  | succ dd ih =>
    intro k pu nt dk wl bk U t' hk h1 h2 h3 h4 h5 h6 h7 h8 h9
    obtain ⟨t1, t2⟩ := ht k (by omega)
    have e5 := h5 k (Nat.le_refl _) (by omega)
    refine br_f (nI_ge (b := 16) (by omega) (by decide)) ?_
    refine xv_changed (c := c) (m := m) (e := e) (b := b) (x := x) (d := (gd_root d, wl, bk, dk, gd_roots d, gd_table d, nt, pu, gd_state d)) (g := k) (t := t) (by omega) t1 t2 (br_f (by decide) ?_) (fun hb h8' => br_t rfl (nm_r (e' := nI (k + 1)) (nI_1 k) ?_))
    · refine xv_page (c := c) (m := m) (e := e) (b := b) (x := x) (d := (gd_root d, wl, bk, dk, gd_roots d, gd_table d, nt, pu, gd_state d)) (Q := Q) (U := U) (g := k) (by omega) (by omega) h2 h9 (fun v dk' wl' bk' v1 v2 v3 v4 v5 => nm_r (e' := nI (k + 1)) (nI_1 k) ?_)
      have v3' : ∀ q, (q < v * 8 ∨ v * 8 + 8 ≤ q) → dk' q = dk q := v3
      have v4' : Q → ∀ i, i < 8 → dk' (v * 8 + i) = pg_c (gm_words m) (gd_state d) k i := v4
      have hdis : ∀ u i, u ∈ U → i < 8 → dk' (u * 8 + i) = dk (u * 8 + i) := by
        intro u i hu hi
        have hne : u ≠ v := fun w => v2 (by rw [← w]; exact hu)
        exact v3' _ (by omega)
      refine ih (k + 1) (upd pu v 1) (upd nt k (nI v)) dk' wl' bk' (v :: U) (fun j => if j = k then v else t' j) (by omega) (by rw [List.length_cons]; omega) ⟨fun u hu => ?_, fun u hu1 hu => ?_⟩ (fun j hj => List.mem_cons_of_mem _ (h3 j hj)) (fun j hj => ?_) (fun j j1 j2 => ?_) (fun j i hj hi => ?_) (fun j hj => ?_) (fun q j i hj hi => ?_) v5
      · by_cases w : u = v
        · rw [w, pk_us]; decide
        · rw [pk_un w]
          rcases List.mem_cons.mp hu with q | q
          · exact absurd q w
          · exact h2.1 u q
      · by_cases w : u = v
        · rw [w]; exact List.mem_cons_self ..
        · rw [pk_un w] at hu; exact List.mem_cons_of_mem _ (h2.2 u hu1 hu)
      · by_cases w : j = k
        · rw [if_pos w, w, pk_us]; exact ⟨v1, rfl⟩
        · rw [if_neg w, pk_un w]; exact h4 j hj
      · rw [if_neg (by omega)]; exact h5 j (by omega) j2
      · rw [hdis _ i (h3 j hj) hi]; exact h6 j i hj hi
      · by_cases w : j = k
        · rw [if_pos w]; exact List.mem_cons_self ..
        · rw [if_neg w]; exact List.mem_cons_of_mem _ (h7 j (by omega))
      · by_cases w : j = k
        · rw [if_pos w, w]; exact v4' q i hi
        · rw [if_neg w, hdis _ i (h7 j (by omega)) hi]; exact h8 q j i (by omega) hi
    · refine ih (k + 1) pu nt dk wl bk U t' (by omega) (by omega) h2 h3 h4 (fun j j1 j2 => h5 j (by omega) j2) h6 (fun j hj => ?_) (fun q j i hj hi => ?_) h9
      · by_cases w : j = k
        · rw [w, e5]; exact h3 k (by omega)
        · exact h7 j (by omega)
      · by_cases w : j = k
        · rw [w, e5]
          by_cases w8 : 8 ≤ k
          · exact h8' w8 i hi
          · rw [h6 k i (by omega) hi, hmem k (by omega) hb q i hi]
            unfold pg_c
            rw [if_pos (by omega)]
        · exact h8 q j i (by omega) hi
theorem xz_136 {t : Nat → Nat} (ht : ∀ j, j < 16 → t j < 40 ∧ gd_newTable d j = nI (t j)) (kk : ∀ tb, (∀ j, j < 16 → tb j = nI (t j)) → post 1 (mk_S c m e b x ((gd_root d, gd_writesLeft d, gd_broken d, gd_disk d, gd_roots d, tb, gd_newTable d, gd_placeUsed d, gd_state d)))) :
    ∀ dd k tb, k + dd = 16 → (∀ j, j < k → tb j = nI (t j)) → lo_writeAll_136 post (dd + 1) (nI k) c m e b x ((gd_root d, gd_writesLeft d, gd_broken d, gd_disk d, gd_roots d, tb, gd_newTable d, gd_placeUsed d, gd_state d)) := by
  intro dd
  induction dd with
  | zero =>
    intro k tb hk h
    exact br_t (nI_le (a := 16) (by omega) (by omega)) (kk tb (fun j hj => h j (by omega)))
  | succ dd ih =>
    intro k tb hk h
    obtain ⟨t1, t2⟩ := ht k (by omega)
    have vk : vp_in (nI k) 16 := pk_in k 16 (by omega)
    refine br_f (nI_ge (b := 16) (by omega) (by decide)) (And.intro vk (And.intro vk (nm_r (e' := upd tb k (nI (t k))) ?_ (nm_r (e' := nI (k + 1)) (nI_1 k) (ih (k + 1) (upd tb k (nI (t k))) (by omega) (fun j hj => ?_))))))
    · show upd tb (nI k).toNatClampNeg (vp_nar .byte (gd_newTable d (nI k).toNatClampNeg)) = _
      rw [pk_cl k, t2, wi_bs (by omega)]
    · by_cases w : j = k
      · rw [w, pk_us]
      · rw [pk_un w]; exact h j (by omega)
/-- all up to the root -/
theorem xz_core {st : Int32} {A : am_T} {t : Nat → Nat} (ok : am_ok A) (h : rx_R m st A) (ht : ∀ j, j < 16 → t j < 40 ∧ gd_table d j = nI (t j)) (hQ : Q → room = -1)
    (hmem : ∀ g, g < 8 → ((gm_changedPages m >>> (nI g &&& 31)) &&& 1) = 0 → Q → ∀ i, i < 8 → gd_disk d (t g * 8 + i) = gm_words m (g * 8 + i))
    (kk : ∀ (z pu nt dk : Nat → Int32) (wl bk : Int32) (t' : Nat → Nat), pk_R z st A → (∀ j, j < 16 → t' j < 40 ∧ nt j = nI (t' j)) → (∀ j i, j < 16 → i < 8 → dk (t j * 8 + i) = gd_disk d (t j * 8 + i)) → (Q → ∀ j i, j < 16 → i < 8 → dk (t' j * 8 + i) = pg_c (gm_words m) z j i) → wm_R Q ((gd_root d, wl, bk, gd_disk d, gd_roots d, gd_table d, gd_newTable d, gd_placeUsed d, gd_state d)) →
      lo_writeAll_75 post room 1 (nI 16) c m e b x ((gd_root d, wl, bk, dk, gd_roots d, gd_table d, nt, pu, z))) : wpX_writeAll post (mk_S c m e b x d) room := by
  unfold wpX_writeAll mk_S; dsimp only
  refine xr_pack (c := c) (m := m) (e := e) (b := b) (x := x) (d := (gd_root d, room, 0, gd_disk d, gd_roots d, gd_table d, gd_newTable d, gd_placeUsed d, gd_state d)) ok h (fun z hz => ⟨41, ?_⟩)
  refine xz_16 (d := (gd_root d, room, 0, gd_disk d, gd_roots d, gd_table d, gd_newTable d, gd_placeUsed d, z)) (fun pu hpu => ⟨17, ?_⟩) 40 0 (gd_placeUsed d) (by omega) (fun v hv => absurd hv (Nat.not_lt_zero _))
  refine xz_37 (d := (gd_root d, room, 0, gd_disk d, gd_roots d, gd_table d, gd_newTable d, gd_placeUsed d, z)) ht (fun pu' nt U u1 u2 u3 u4 => ⟨17, ?_⟩) 16 0 pu (gd_newTable d) [] (by omega) (Nat.zero_le _) ⟨fun v hv => absurd hv List.not_mem_nil, fun v hv hu => absurd (hpu v hv) hu⟩ (fun j hj => absurd hj (Nat.not_lt_zero _)) (fun j hj => absurd hj (Nat.not_lt_zero _))
  refine xz_75 (d := (gd_root d, room, 0, gd_disk d, gd_roots d, gd_table d, gd_newTable d, gd_placeUsed d, z)) (Q := Q) ht hmem (fun pu2 nt2 dk wl bk t' k1 k2 k3 k4 => kk z pu2 nt2 dk wl bk t' hz k1 k2 k3 k4) 16 0 pu' nt (gd_disk d) room 0 U t (by omega) (by omega) u2 u3 (fun j hj => ⟨(ht j hj).1, u4 j hj⟩) (fun _ _ _ => rfl) (fun _ _ _ _ => rfl) (fun j hj => absurd hj (Nat.not_lt_zero _)) (fun _ j _ hj => absurd hj (Nat.not_lt_zero _)) (fun q => ⟨hQ q, rfl⟩)
/-- a whole save -/
theorem xz_save {st : Int32} {A : am_T} {N : Nat} {s z0 : Nat → Int32} (ok : am_ok A) (h : rx_R m st A) (hN : N ≤ 100000) (hd : dk_R d N s z0) (hch : ∀ g, g < 8 → ((gm_changedPages m >>> (nI g &&& 31)) &&& 1) = 0 → 0 < N ∧ ∀ i, i < 8 → gm_words m (g * 8 + i) = s (g * 8 + i))
    (kk : ∀ d' z, pk_R z st A → dk_R d' (N + 1) (gm_words m) z → post 1 (mk_S c ((gm_status m, gm_at m, gm_stackSize m, gm_returnSize m, gm_inputSize m, gm_outputSize m, 0, gm_stack m, gm_returns m, gm_words m, gm_inputs m, gm_outs m)) e b x d')) : wpX_writeAll post (mk_S c m e b x d) (-1) := by
  obtain ⟨r, M, t, hr, hro, ht, ⟨r1, r2, r3, r4, r5⟩, hp⟩ := hd
  refine xz_core (Q := True) (t := t) ok h ht (fun _ => rfl) (fun g hg hb _ i hi => ?_) (fun z pu nt dk wl bk t' hz k1 k2 k3 k4 => ?_)
  · obtain ⟨n1, n2⟩ := hch g hg hb
    rw [(hp n1).2.2 g i (by omega) hi, n2 i hi]
    unfold pg_c
    rw [if_pos hg]
  · refine br_t (nI_le (a := 16) (Nat.le_refl _) (by decide)) (br_f (by decide) ?_)
    show lo_writeAll_110 post (-1) 1 c m e b x ((gd_root d, wl, bk, dk, gd_roots d, gd_table d, nt, pu, z))
    unfold lo_writeAll_110 wX_writeAll_110
    refine xy_root (c := c) (m := m) (e := e) (b := b) (x := x) (d := (gd_root d, wl, bk, dk, gd_roots d, gd_table d, nt, pu, z)) (Q := True) (r := r) (N := N) (t := t') hr hN hro r1 k1 k4 (fun _ => by decide) (fun ro wl' bk' _ q2 _ q4 => ?_)
    obtain ⟨w1, w2, w3, w4⟩ := q4 trivial
    have q2' : ∀ q, r * 19 ≤ q → q < r * 19 + 19 → ro q = gd_roots d q := q2
    refine br_t (by decide) (nm_r (e' := nI (1 - r)) ?_ ⟨17, ?_⟩)
    · show 1 - gd_root d = _
      rw [hro, show (1 : Int32) = nI 1 from rfl, pk_sub hr]
    · refine xz_136 (m := (gm_status m, gm_at m, gm_stackSize m, gm_returnSize m, gm_inputSize m, gm_outputSize m, 0, gm_stack m, gm_returns m, gm_words m, gm_inputs m, gm_outs m)) (d := (nI (1 - r), wl', bk', dk, ro, gd_table d, nt, pu, z)) k1 (fun tb htb => ?_) 16 0 (gd_table d) (by omega) (fun j hj => absurd hj (Nat.not_lt_zero _))
      refine kk ((nI (1 - r), wl', bk', dk, ro, tb, nt, pu, z)) z hz ⟨1 - r, N, t', by omega, rfl, fun j hj => ⟨(k1 j hj).1, htb j hj⟩, ⟨w1, w2, ?_, by omega, fun _ => by omega⟩, fun _ => ⟨w4, w3, k3 trivial⟩⟩
      show ro ((1 - (1 - r)) * 19 + 18) = _
      rw [show 1 - (1 - r) = r by omega, q2' _ (by omega) (by omega)]
      exact r2
/-- a save that is cut -/
theorem xz_cut {st : Int32} {A : am_T} {N : Nat} {s z0 : Nat → Int32} (ok : am_ok A) (h : rx_R m st A) (hN : N ≤ 100000) (hd : dk_R d N s z0) (hrm : 0 ≤ room)
    (kk : ∀ d', dk_R d' N s z0 → post 0 (mk_S c m e b x d')) : wpX_writeAll post (mk_S c m e b x d) room := by
  obtain ⟨r, M, t, hr, hro, ht, ⟨r1, r2, r3, r4, r5⟩, hp⟩ := hd
  refine xz_core (Q := False) (t := t) ok h ht (fun q => q.elim) (fun g hg hb q => q.elim) (fun z pu nt dk wl bk t' hz k1 k2 k3 k4 => ?_)
  refine br_t (nI_le (a := 16) (Nat.le_refl _) (by decide)) (br_t hrm ?_)
  show lo_writeAll_110 post room 0 c m e b x ((gd_root d, wl, bk, dk, gd_roots d, gd_table d, nt, pu, z))
  unfold lo_writeAll_110 wX_writeAll_110
  refine xy_root (c := c) (m := m) (e := e) (b := b) (x := x) (d := (gd_root d, wl, bk, dk, gd_roots d, gd_table d, nt, pu, z)) (Q := False) (r := r) (N := N) (t := t') hr hN hro r1 k1 k4 (fun q => q.elim) (fun ro wl' bk' _ q2 q3 _ => ?_)
  have q2' : ∀ q, r * 19 ≤ q → q < r * 19 + 19 → ro q = gd_roots d q := q2
  refine br_f (fun z => (Int32.not_lt.mpr hrm) z) (kk ((gd_root d, wl', bk', dk, ro, gd_table d, nt, pu, z)) ⟨r, M, t, hr, hro, ht, ⟨?_, ?_, ?_, r4, r5⟩, fun n => ⟨fun j hj => ?_, ?_, fun g i hg hi => ?_⟩⟩)
  · exact (q2' _ (by omega) (by omega)).trans r1
  · exact (q2' _ (by omega) (by omega)).trans r2
  · exact (q3 rfl).trans r3
  · exact (q2' _ (by omega) (by omega)).trans ((hp n).1 j hj)
  · exact (q2' _ (by omega) (by omega)).trans (hp n).2.1
  · exact (k2 g i hg hi).trans ((hp n).2.2 g i hg hi)
end XZ
end
section
/-! coming back -/
def so_sum (ro : Nat → Int32) (p : Nat) : Nat → Int32
  | 0 => ro p
  | k + 1 => so_sum ro p k * 31 + ro (p + 1 + k)
theorem so_eq {ro : Nat → Int32} {p N : Nat} {t : Nat → Nat} (h0 : ro p = nI N) : ∀ k, (∀ j, j < k → ro (p + 1 + j) = nI (t j)) → so_sum ro p k = rs_sum N t k := by
  intro k
  induction k with
  | zero => intro _; exact h0
  | succ k ih => intro h; rw [so_sum, rs_sum, ih (fun j hj => h j (by omega)), h k (by omega)]
theorem pk_cg {z z' : Nat → Int32} {st : Int32} {A : am_T} (ok : am_ok A) (hz : ∀ q, q < 64 → z' q = z q) (h : pk_R z st A) : pk_R z' st A := by
  obtain ⟨p, S, R, I, O, W⟩ := A
  obtain ⟨g0, g1, g2, gs, g3, gr, g4, gi, g5, go⟩ := h
  obtain ⟨o0, o1, o2, o3, o4, o5⟩ := ok
  dsimp only at g0 g1 g2 g3 g4 g5 gs gr gi go o0 o1 o2 o3 o4 o5
  have lr : (R.map nI).length = R.length := List.length_map _
  refine ⟨(hz _ (by omega)).trans g0, (hz _ (by omega)).trans g1, (hz _ (by omega)).trans g2, sg_mv (fun i hi => hz _ ?_) gs, (hz _ (by omega)).trans g3, sg_mv (fun i hi => hz _ ?_) gr, (hz _ (by omega)).trans g4, qu_mv (fun i hi => hz _ ?_) gi, (hz _ (by omega)).trans g5, sg_mv (fun i hi => hz _ ?_) go⟩ <;> (try dsimp only at hi) <;> omega
section XA2
variable {c : ty_C} {m : ty_M} {e : ty_E} {b : ty_B} {x : ty_X} {d : ty_D}
theorem rv_sound {post : Int32 → Prop} {sl : Nat} (hs : sl ≤ 1) (k1 : gd_roots d (sl * 19) = gd_roots d (sl * 19 + 18) → post 1)
    (k0 : ¬ (¬ gd_roots d (sl * 19) ≤ 0 ∧ gd_roots d (sl * 19) = gd_roots d (sl * 19 + 18) ∧ so_sum (gd_roots d) (sl * 19) 16 = gd_roots d (sl * 19 + 17)) → post 0) : wpX_isSound post (mk_S c m e b x d) (nI sl) := by
  have e0 : nI sl * 19 = nI (sl * 19) := by rw [show (19 : Int32) = nI 19 from rfl, pk_mul]
  have v0 : vp_in (nI (sl * 19)) 38 := pk_in (sl * 19) 38 (by omega)
  have c0 : gd_roots d (nI (sl * 19)).toNatClampNeg = gd_roots d (sl * 19) := by rw [pk_cl (sl * 19)]
  refine nm_r (e' := nI (sl * 19)) e0 (And.intro v0 (nm_r (e' := so_sum (gd_roots d) (sl * 19) 0) ?_ ⟨17, ?_⟩))
  · show gd_roots d (nI (sl * 19)).toNatClampNeg = _
    rw [c0]; rfl
  have e18 : (nI (sl * 19) + 19) - 1 = nI (sl * 19 + 18) := by
    rw [show (19 : Int32) = nI 19 from rfl, nI_add]; exact nI_pred (sl * 19 + 18)
  have e17 : (nI (sl * 19) + 1) + 16 = nI (sl * 19 + 17) := by
    rw [nI_1, show (16 : Int32) = nI 16 from rfl, nI_add]
  have c18 : gd_roots d ((nI (sl * 19) + 19) - 1).toNatClampNeg = gd_roots d (sl * 19 + 18) := by rw [pk_cl (sl * 19 + 18) e18]
  have c17 : gd_roots d ((nI (sl * 19) + 1) + 16).toNatClampNeg = gd_roots d (sl * 19 + 17) := by rw [pk_cl (sl * 19 + 17) e17]
  have loop : ∀ dd k, k + dd = 16 → lo_isSound_15 post (nI (sl * 19)) (dd + 1) (so_sum (gd_roots d) (sl * 19) k) (nI k) c m e b x d := by
    intro dd
    induction dd with
    | zero =>
      intro k hk
      have ek : k = 16 := by omega
      subst ek
      refine br_t (nI_le (a := 16) (Nat.le_refl _) (by decide)) (And.intro v0 (br_c (fun z => k0 (fun q => q.1 (by rw [← c0]; exact z))) (fun z => And.intro v0 (And.intro (pk_in (sl * 19 + 18) 38 (by omega) e18) (br_c (fun y => And.intro (pk_in (sl * 19 + 17) 38 (by omega) e17) (br_c (fun w => k1 ?_) (fun w => k0 (fun q => w ?_)))) (fun y => k0 (fun q => y ?_)))))))
      · exact (c0.symm.trans y).trans c18
      · exact q.2.2.trans c17.symm
      · exact (c0.trans q.2.1).trans c18.symm
    | succ dd ih =>
      intro k hk
      have e1 : (nI (sl * 19) + 1) + nI k = nI (sl * 19 + 1 + k) := by rw [nI_1, nI_add]
      refine br_f (nI_ge (b := 16) (by omega) (by decide)) (And.intro (pk_in (sl * 19 + 1 + k) 38 (by omega) e1) (nm_r (e' := so_sum (gd_roots d) (sl * 19) (k + 1)) ?_ (nm_r (e' := nI (k + 1)) (nI_1 k) (ih (k + 1) (by omega)))))
      show (so_sum (gd_roots d) (sl * 19) k * 31) + gd_roots d ((nI (sl * 19) + 1) + nI k).toNatClampNeg = _
      rw [pk_cl (sl * 19 + 1 + k) e1]; rfl
  exact loop 16 0 (by omega)
theorem rv_93 {post : SX → Prop} {J : Int32 → SX → Prop} {k : Nat} {t : Nat → Nat} {s z : Nat → Int32} (hk : k < 16) (ht : t k < 40 ∧ gd_table d k = nI (t k)) (hdk : ∀ i, i < 8 → gd_disk d (t k * 8 + i) = pg_c s z k i)
    (kJ : ∀ w z', (∀ g i, g < k + 1 → i < 8 → pg_c w z' g i = pg_c s z g i) → J (nI (k + 1)) (mk_S c ((gm_status m, gm_at m, gm_stackSize m, gm_returnSize m, gm_inputSize m, gm_outputSize m, gm_changedPages m, gm_stack m, gm_returns m, w, gm_inputs m, gm_outs m)) e b x ((gd_root d, gd_writesLeft d, gd_broken d, gd_disk d, gd_roots d, gd_table d, gd_newTable d, gd_placeUsed d, z')))) :
    ∀ dd i (w z' : Nat → Int32), i + dd = 8 → (∀ g j, (g < k ∧ j < 8) ∨ (g = k ∧ j < i) → pg_c w z' g j = pg_c s z g j) → lo_recover_93 post J (nI k) (dd + 1) (nI i) c ((gm_status m, gm_at m, gm_stackSize m, gm_returnSize m, gm_inputSize m, gm_outputSize m, gm_changedPages m, gm_stack m, gm_returns m, w, gm_inputs m, gm_outs m)) e b x ((gd_root d, gd_writesLeft d, gd_broken d, gd_disk d, gd_roots d, gd_table d, gd_newTable d, gd_placeUsed d, z')) := by
  intro dd
  induction dd with
  | zero =>
    intro i w z' hi h
    refine br_t (nI_le (a := 8) (by omega) (by omega)) (nm_r (e' := nI (k + 1)) (nI_1 k) (kJ w z' (fun g j hg hj => h g j ?_)))
    omega
  | succ dd ih =>
    intro i w z' hi h
    have vk : vp_in (nI k) 16 := pk_in k 16 hk
    have et : gd_table d (nI k).toNatClampNeg = nI (t k) := by rw [pk_cl k]; exact ht.2
    have ea : (gd_table d (nI k).toNatClampNeg * 8) + nI i = nI (t k * 8 + i) := by rw [et, show (8 : Int32) = nI 8 from rfl, pk_mul, nI_add]
    refine br_f (nI_ge (b := 8) (by omega) (by decide)) (And.intro vk (And.intro (pk_in (t k * 8 + i) 320 (by have := ht.1; omega) ea) (nm_r (e' := pg_c s z k i) ?_ (pk_le 8 k (fun y => ?_) (fun y => ?_)))))
    · show gd_disk d ((gd_table d (nI k).toNatClampNeg * 8) + nI i).toNatClampNeg = _
      rw [pk_cl (t k * 8 + i) ea (by have := ht.1; omega)]; exact hdk i (by omega)
    · have e1 : ((nI k - 8) * 8) + nI i = nI ((k - 8) * 8 + i) := by
        rw [show (8 : Int32) = nI 8 from rfl, pk_sub y, pk_mul, nI_add]
      refine And.intro (pk_in ((k - 8) * 8 + i) 64 (by omega) e1) (nm_r (e' := upd z' ((k - 8) * 8 + i) (pg_c s z k i)) ?_ (nm_r (e' := nI (i + 1)) (nI_1 i) (ih (i + 1) w (upd z' ((k - 8) * 8 + i) (pg_c s z k i)) (by omega) (fun g j hgj => ?_))))
      · show upd z' (((nI k - 8) * 8) + nI i).toNatClampNeg _ = _
        rw [pk_cl ((k - 8) * 8 + i) e1]
      · by_cases q : g = k ∧ j = i
        · obtain ⟨q1, q2⟩ := q
          subst q1 q2
          show (if g < 8 then w (g * 8 + j) else upd z' ((g - 8) * 8 + j) (pg_c s z g j) ((g - 8) * 8 + j)) = _
          rw [if_neg (by omega), pk_us]
        · rw [← h g j (by omega)]
          unfold pg_c
          by_cases g8 : g < 8
          · rw [if_pos g8, if_pos g8]
          · rw [if_neg g8, if_neg g8, pk_un (by omega)]
    · have e1 : (nI k * 8) + nI i = nI (k * 8 + i) := by
        rw [show (8 : Int32) = nI 8 from rfl, pk_mul, nI_add]
      refine And.intro (pk_in (k * 8 + i) 64 (by omega) e1) (nm_r (e' := upd w (k * 8 + i) (pg_c s z k i)) ?_ (nm_r (e' := nI (i + 1)) (nI_1 i) (ih (i + 1) (upd w (k * 8 + i) (pg_c s z k i)) z' (by omega) (fun g j hgj => ?_))))
      · show upd w ((nI k * 8) + nI i).toNatClampNeg _ = _
        rw [pk_cl (k * 8 + i) e1]
      · by_cases q : g = k ∧ j = i
        · obtain ⟨q1, q2⟩ := q
          subst q1 q2
          show (if g < 8 then upd w (g * 8 + j) (pg_c s z g j) (g * 8 + j) else z' ((g - 8) * 8 + j)) = _
          rw [if_pos (by omega), pk_us]
        · rw [← h g j (by omega)]
          unfold pg_c
          by_cases g8 : g < 8
          · rw [if_pos g8, if_pos g8, pk_un (by omega)]
          · rw [if_neg g8, if_neg g8]
theorem rv_58 {post : SX → Prop} {r : Nat} {t : Nat → Nat} {s z : Nat → Int32} (hr : r ≤ 1) (hro : gd_root d = nI r) (ht : ∀ j, j < 16 → t j < 40) (hrt : ∀ j, j < 16 → gd_roots d (r * 19 + 1 + j) = nI (t j)) (hdk : ∀ g i, g < 16 → i < 8 → gd_disk d (t g * 8 + i) = pg_c s z g i)
    (kk : ∀ w z' tb, (∀ j, j < 16 → tb j = nI (t j)) → (∀ g i, g < 16 → i < 8 → pg_c w z' g i = pg_c s z g i) → wpX_unpackState post (mk_S c ((gm_status m, gm_at m, gm_stackSize m, gm_returnSize m, gm_inputSize m, gm_outputSize m, 0, gm_stack m, gm_returns m, w, gm_inputs m, gm_outs m)) e b x ((gd_root d, gd_writesLeft d, gd_broken d, gd_disk d, gd_roots d, tb, gd_newTable d, gd_placeUsed d, z')))) :
    ∀ dd k (w z' tb : Nat → Int32), k + dd = 16 → (∀ j, j < 16 → tb j = nI (t j)) → (∀ g i, g < k → i < 8 → pg_c w z' g i = pg_c s z g i) → lo_recover_58 post (dd + 1) (nI k) c ((gm_status m, gm_at m, gm_stackSize m, gm_returnSize m, gm_inputSize m, gm_outputSize m, gm_changedPages m, gm_stack m, gm_returns m, w, gm_inputs m, gm_outs m)) e b x ((gd_root d, gd_writesLeft d, gd_broken d, gd_disk d, gd_roots d, tb, gd_newTable d, gd_placeUsed d, z')) := by
  intro dd
  induction dd with
  | zero =>
    intro k w z' tb hk h1 h2
    refine br_t (nI_le (a := 16) (by omega) (by omega)) ?_
    have hu := kk w z' tb h1 (fun g i hg hi => h2 g i (by omega) hi)
    exact hu
  | succ dd ih =>
    intro k w z' tb hk h1 h2
    have e1 : ((gd_root d * 19) + 1) + nI k = nI (r * 19 + 1 + k) := by
      rw [hro, show (19 : Int32) = nI 19 from rfl, pk_mul, nI_1, nI_add]
    have htk := ht k (by omega)
    refine br_f (nI_ge (b := 16) (by omega) (by decide)) (And.intro (pk_in (r * 19 + 1 + k) 38 (by omega) e1) (And.intro (pk_in k 16 (by omega)) (nm_r (e' := upd tb k (nI (t k))) ?_ ⟨9, ?_⟩)))
    · show upd tb (nI k).toNatClampNeg (vp_nar .byte (gd_roots d (((gd_root d * 19) + 1) + nI k).toNatClampNeg).toInt8.toInt32) = _
      rw [pk_cl k, pk_cl (r * 19 + 1 + k) e1, hrt k (by omega), pk_vb, wi_b (by omega)]
    · refine rv_93 (J := fun y u => wX_recover_58 post u.1 u.2.1 u.2.2.1 u.2.2.2.1 u.2.2.2.2.1 u.2.2.2.2.2.1 u.2.2.2.2.2.2.1 u.2.2.2.2.2.2.2.1 u.2.2.2.2.2.2.2.2.1 u.2.2.2.2.2.2.2.2.2.1 u.2.2.2.2.2.2.2.2.2.2.1 u.2.2.2.2.2.2.2.2.2.2.2.1 u.2.2.2.2.2.2.2.2.2.2.2.2.1 u.2.2.2.2.2.2.2.2.2.2.2.2.2.1 u.2.2.2.2.2.2.2.2.2.2.2.2.2.2.1 u.2.2.2.2.2.2.2.2.2.2.2.2.2.2.2.1 u.2.2.2.2.2.2.2.2.2.2.2.2.2.2.2.2.1 u.2.2.2.2.2.2.2.2.2.2.2.2.2.2.2.2.2.1 u.2.2.2.2.2.2.2.2.2.2.2.2.2.2.2.2.2.2.1 (dd + 1) y u.2.2.2.2.2.2.2.2.2.2.2.2.2.2.2.2.2.2.2.1 u.2.2.2.2.2.2.2.2.2.2.2.2.2.2.2.2.2.2.2.2.1 u.2.2.2.2.2.2.2.2.2.2.2.2.2.2.2.2.2.2.2.2.2.1 u.2.2.2.2.2.2.2.2.2.2.2.2.2.2.2.2.2.2.2.2.2.2.1 u.2.2.2.2.2.2.2.2.2.2.2.2.2.2.2.2.2.2.2.2.2.2.2.1 u.2.2.2.2.2.2.2.2.2.2.2.2.2.2.2.2.2.2.2.2.2.2.2.2.1 u.2.2.2.2.2.2.2.2.2.2.2.2.2.2.2.2.2.2.2.2.2.2.2.2.2.1 u.2.2.2.2.2.2.2.2.2.2.2.2.2.2.2.2.2.2.2.2.2.2.2.2.2.2.1 u.2.2.2.2.2.2.2.2.2.2.2.2.2.2.2.2.2.2.2.2.2.2.2.2.2.2.2.1 u.2.2.2.2.2.2.2.2.2.2.2.2.2.2.2.2.2.2.2.2.2.2.2.2.2.2.2.2.1 u.2.2.2.2.2.2.2.2.2.2.2.2.2.2.2.2.2.2.2.2.2.2.2.2.2.2.2.2.2.1 u.2.2.2.2.2.2.2.2.2.2.2.2.2.2.2.2.2.2.2.2.2.2.2.2.2.2.2.2.2.2.1 u.2.2.2.2.2.2.2.2.2.2.2.2.2.2.2.2.2.2.2.2.2.2.2.2.2.2.2.2.2.2.2.1 u.2.2.2.2.2.2.2.2.2.2.2.2.2.2.2.2.2.2.2.2.2.2.2.2.2.2.2.2.2.2.2.2.1 u.2.2.2.2.2.2.2.2.2.2.2.2.2.2.2.2.2.2.2.2.2.2.2.2.2.2.2.2.2.2.2.2.2.1 u.2.2.2.2.2.2.2.2.2.2.2.2.2.2.2.2.2.2.2.2.2.2.2.2.2.2.2.2.2.2.2.2.2.2.1 u.2.2.2.2.2.2.2.2.2.2.2.2.2.2.2.2.2.2.2.2.2.2.2.2.2.2.2.2.2.2.2.2.2.2.2.1 u.2.2.2.2.2.2.2.2.2.2.2.2.2.2.2.2.2.2.2.2.2.2.2.2.2.2.2.2.2.2.2.2.2.2.2.2.1 u.2.2.2.2.2.2.2.2.2.2.2.2.2.2.2.2.2.2.2.2.2.2.2.2.2.2.2.2.2.2.2.2.2.2.2.2.2.1 u.2.2.2.2.2.2.2.2.2.2.2.2.2.2.2.2.2.2.2.2.2.2.2.2.2.2.2.2.2.2.2.2.2.2.2.2.2.2.1 u.2.2.2.2.2.2.2.2.2.2.2.2.2.2.2.2.2.2.2.2.2.2.2.2.2.2.2.2.2.2.2.2.2.2.2.2.2.2.2.1 u.2.2.2.2.2.2.2.2.2.2.2.2.2.2.2.2.2.2.2.2.2.2.2.2.2.2.2.2.2.2.2.2.2.2.2.2.2.2.2.2.1 u.2.2.2.2.2.2.2.2.2.2.2.2.2.2.2.2.2.2.2.2.2.2.2.2.2.2.2.2.2.2.2.2.2.2.2.2.2.2.2.2.2.1 u.2.2.2.2.2.2.2.2.2.2.2.2.2.2.2.2.2.2.2.2.2.2.2.2.2.2.2.2.2.2.2.2.2.2.2.2.2.2.2.2.2.2.1 u.2.2.2.2.2.2.2.2.2.2.2.2.2.2.2.2.2.2.2.2.2.2.2.2.2.2.2.2.2.2.2.2.2.2.2.2.2.2.2.2.2.2.2.1 u.2.2.2.2.2.2.2.2.2.2.2.2.2.2.2.2.2.2.2.2.2.2.2.2.2.2.2.2.2.2.2.2.2.2.2.2.2.2.2.2.2.2.2.2.1 u.2.2.2.2.2.2.2.2.2.2.2.2.2.2.2.2.2.2.2.2.2.2.2.2.2.2.2.2.2.2.2.2.2.2.2.2.2.2.2.2.2.2.2.2.2.1 u.2.2.2.2.2.2.2.2.2.2.2.2.2.2.2.2.2.2.2.2.2.2.2.2.2.2.2.2.2.2.2.2.2.2.2.2.2.2.2.2.2.2.2.2.2.2.1 u.2.2.2.2.2.2.2.2.2.2.2.2.2.2.2.2.2.2.2.2.2.2.2.2.2.2.2.2.2.2.2.2.2.2.2.2.2.2.2.2.2.2.2.2.2.2.2.1 u.2.2.2.2.2.2.2.2.2.2.2.2.2.2.2.2.2.2.2.2.2.2.2.2.2.2.2.2.2.2.2.2.2.2.2.2.2.2.2.2.2.2.2.2.2.2.2.2.1 u.2.2.2.2.2.2.2.2.2.2.2.2.2.2.2.2.2.2.2.2.2.2.2.2.2.2.2.2.2.2.2.2.2.2.2.2.2.2.2.2.2.2.2.2.2.2.2.2.2.1 u.2.2.2.2.2.2.2.2.2.2.2.2.2.2.2.2.2.2.2.2.2.2.2.2.2.2.2.2.2.2.2.2.2.2.2.2.2.2.2.2.2.2.2.2.2.2.2.2.2.2.1 u.2.2.2.2.2.2.2.2.2.2.2.2.2.2.2.2.2.2.2.2.2.2.2.2.2.2.2.2.2.2.2.2.2.2.2.2.2.2.2.2.2.2.2.2.2.2.2.2.2.2.2.1 u.2.2.2.2.2.2.2.2.2.2.2.2.2.2.2.2.2.2.2.2.2.2.2.2.2.2.2.2.2.2.2.2.2.2.2.2.2.2.2.2.2.2.2.2.2.2.2.2.2.2.2.2) (d := (gd_root d, gd_writesLeft d, gd_broken d, gd_disk d, gd_roots d, upd tb k (nI (t k)), gd_newTable d, gd_placeUsed d, gd_state d)) (by omega) ⟨htk, pk_us⟩ (fun i hi => hdk k i (by omega) hi) (fun w2 z2 h3 => ?_) 8 0 w z' (by omega) (fun g j hgj => h2 g j (by omega) (by omega))
      refine ih (k + 1) w2 z2 (upd tb k (nI (t k))) (by omega) (fun j hj => ?_) h3
      by_cases q : j = k
      · rw [q, pk_us]
      · rw [pk_un q]; exact h1 j hj
theorem rv_recover {post : SX → Prop} {N : Nat} {s z : Nat → Int32} {st : Int32} {A : am_T} (hN0 : 0 < N) (hN : N ≤ 100000) (hd : dk_R d N s z) (ok : am_ok A) (hz : pk_R z st A) (hsW : ∀ i, i < 64 → s i = A.2.2.2.2.2 i)
    (kk : ∀ m' d', rx_R m' st A → (∀ i, i < 64 → gm_words m' i = s i) → gm_changedPages m' = 0 → dk_R d' N s z → post (mk_S c m' e b x d')) : wpX_recover post (mk_S c m e b x d) := by
  obtain ⟨r, M, t, hr, hro, ht, ⟨r1, r2, r3, r4, r5⟩, hp⟩ := hd
  obtain ⟨p1, p2, p3⟩ := hp hN0
  have hM := r5 hN0
  -- the sound root is loaded
  have h58 : ∀ rt : Int32, rt = nI r → ∃ n, lo_recover_58 post n (nI 0) c m e b x ((rt, gd_writesLeft d, gd_broken d, gd_disk d, gd_roots d, gd_table d, gd_newTable d, gd_placeUsed d, gd_state d)) := by
    intro rt hrt
    refine ⟨17, ?_⟩
    refine rv_58 (m := m) (d := (rt, gd_writesLeft d, gd_broken d, gd_disk d, gd_roots d, gd_table d, gd_newTable d, gd_placeUsed d, gd_state d)) (r := r) (t := t) (s := s) (z := z) hr hrt (fun j hj => (ht j hj).1) p1 p3 (fun w z' tb htb hpg => ?_) 16 0 (gm_words m) (gd_state d) (gd_table d) (by omega) (fun j hj => (ht j hj).2) (fun g i hg => absurd hg (Nat.not_lt_zero _))
    have hw : ∀ i, i < 64 → w i = s i := by
      intro i hi
      have := hpg (i / 8) (i % 8) (by omega) (Nat.mod_lt _ (by decide))
      unfold pg_c at this
      rw [if_pos (by omega), if_pos (by omega), show i / 8 * 8 + i % 8 = i by omega] at this
      exact this
    have hz' : ∀ q, q < 64 → z' q = z q := by
      intro q hq
      have := hpg (8 + q / 8) (q % 8) (by omega) (Nat.mod_lt _ (by decide))
      unfold pg_c at this
      rw [if_neg (by omega), if_neg (by omega), show (8 + q / 8 - 8) * 8 + q % 8 = q by omega] at this
      exact this
    refine xu_main (c := c) (m := (gm_status m, gm_at m, gm_stackSize m, gm_returnSize m, gm_inputSize m, gm_outputSize m, 0, gm_stack m, gm_returns m, w, gm_inputs m, gm_outs m)) (e := e) (b := b) (x := x) (d := (rt, gd_writesLeft d, gd_broken d, gd_disk d, gd_roots d, tb, gd_newTable d, gd_placeUsed d, z')) ok (pk_cg ok hz' hz) (fun i hi => (hw i hi).trans (hsW i hi)) (fun m' q1 q2 q3 => kk m' ((rt, gd_writesLeft d, gd_broken d, gd_disk d, gd_roots d, tb, gd_newTable d, gd_placeUsed d, z')) q1 (fun i hi => ?_) q3 ⟨r, M, t, hr, hrt, fun j hj => ⟨(ht j hj).1, htb j hj⟩, ⟨r1, r2, r3, r4, r5⟩, hp⟩)
    rw [q2]; exact hw i hi
  -- the sound root is found
  have hNp : ¬ nI N ≤ 0 := nI_nle hN0 (by omega)
  have hsound : ¬ gd_roots d (r * 19) ≤ 0 ∧ gd_roots d (r * 19) = gd_roots d (r * 19 + 18) ∧ so_sum (gd_roots d) (r * 19) 16 = gd_roots d (r * 19 + 17) := by
    refine ⟨by rw [r1]; exact hNp, r1.trans r2.symm, ?_⟩
    rw [so_eq r1 16 p1, p2]
  unfold wpX_recover mk_S; dsimp only
  rcases (show r = 0 ∨ r = 1 by omega) with rfl | rfl
  · have h40 : lo_recover_40 post c m e b x d := br_t rfl (h58 0 rfl)
    refine rv_sound (c := c) (m := m) (e := e) (b := b) (x := x) (d := d) (sl := 0) (by omega) (fun _ => ?_) (fun q => absurd hsound q)
    refine rv_sound (c := c) (m := m) (e := e) (b := b) (x := x) (d := d) (sl := 1) (by omega) (fun hq => ?_) (fun _ => br_t rfl h40)
    refine br_f (by decide) (br_f (by decide) (br_t ?_ h40))
    show gd_roots d 19 ≤ gd_roots d 0
    have e19 : gd_roots d 19 = nI M := hq.trans r3
    have e0 : gd_roots d 0 = nI N := r1
    rw [e19, e0]; exact nI_le (by omega) (by omega)
  · have h36 : lo_recover_36 post c m e b x d := br_f (by decide) (h58 1 rfl)
    have second : ∀ r1' : Int32, (¬ r1' = 0 → gd_roots d (0 * 19) = gd_roots d (0 * 19 + 18)) → (r1' = 0 → lo_recover_36 post c m e b x d) ∧ (¬ r1' = 0 → (gd_roots d 19 ≤ gd_roots d 0 → lo_recover_40 post c m e b x d) ∧ (¬ gd_roots d 19 ≤ gd_roots d 0 → lo_recover_36 post c m e b x d)) := by
      intro r1' hr1'
      refine ⟨fun _ => h36, fun q => br_f ?_ h36⟩
      have e0 : gd_roots d 0 = nI M := (hr1' q).trans r3
      have e19 : gd_roots d 19 = nI N := r1
      rw [e0, e19]; exact nI_ge hM (by omega)
    refine rv_sound (c := c) (m := m) (e := e) (b := b) (x := x) (d := d) (sl := 0) (by omega) (fun hq => ?_) (fun _ => ?_)
    · exact rv_sound (c := c) (m := m) (e := e) (b := b) (x := x) (d := d) (sl := 1) (by omega) (fun _ => br_f (by decide) (second 1 (fun _ => hq))) (fun q => absurd hsound q)
    · exact rv_sound (c := c) (m := m) (e := e) (b := b) (x := x) (d := d) (sl := 1) (by omega) (fun _ => br_f (by decide) (second 0 (fun q => absurd rfl q))) (fun q => absurd hsound q)
end XA2
end
section
/-! the small methods of both sides -/
def am_0 : am_T := (0, [], [], [], [], fun _ => 0)
theorem am_ok_0 : am_ok am_0 := ⟨Nat.zero_le _, Nat.zero_le _, Nat.zero_le _, Nat.zero_le _, Nat.zero_le _, fun r hr => absurd hr List.not_mem_nil⟩
theorem ry_cg {w w' : Nat → Int32} {st : Int32} {A : am_T} (ok : am_ok A) (hw : ∀ j, j < 124 → w' j = w j) (h : ry_R w st A) : ry_R w' st A := by
  obtain ⟨p, S, R, I, O, W⟩ := A
  obtain ⟨h0, h1, h2, h3, h4, h5, hs, hr, hi, ho, hW⟩ := h
  obtain ⟨o0, o1, o2, o3, o4, o5⟩ := ok
  dsimp only at h0 h1 h2 h3 h4 h5 hs hr hi ho hW o0 o1 o2 o3 o4 o5
  have lr : (R.map nI).length = R.length := List.length_map _
  refine ⟨(hw _ (by omega)).trans h0, (hw _ (by omega)).trans h1, (hw _ (by omega)).trans h2, (hw _ (by omega)).trans h3, (hw _ (by omega)).trans h4, (hw _ (by omega)).trans h5, sg_mv (fun i hi => hw _ ?_) hs, sg_mv (fun i hi => hw _ ?_) hr, qu_mv (fun i hi => hw _ ?_) hi, sg_mv (fun i hi => hw _ ?_) ho, fun i hi => (hw _ (by omega)).trans (hW i hi)⟩ <;> (try dsimp only at hi) <;> omega
theorem ry_0 {w : Nat → Int32} (h : ∀ j, j < 124 → w j = 0) : ry_R w 0 am_0 :=
  ⟨h 0 (by omega), h 1 (by omega), h 2 (by omega), h 3 (by omega), h 4 (by omega), h 5 (by omega), trivial, trivial, trivial, trivial, fun i hi => h (60 + i) (by omega)⟩
section YS
variable {sz : Int32} {o nu w sv : Nat → Int32}
theorem ys_clear {post : SY → Prop} (k : ∀ w', (∀ j, j < 124 → w' j = 0) → post (sz, o, nu, w', sv)) : wpY_clear post (sz, o, nu, w, sv) := by
  have loop : ∀ dd i (w : Nat → Int32), i + dd = 124 → (∀ j, j < i → w j = 0) → wY_clear_2 post sz (dd + 1) (nI i) o nu w sv := by
    intro dd
    induction dd with
    | zero =>
      intro i w hi h
      exact br_t (nI_le (a := 124) (by omega) (by omega)) (k w (fun j hj => h j (by omega)))
    | succ dd ih =>
      intro i w hi h
      refine br_f (nI_ge (b := 124) (by omega) (by decide)) (And.intro (pk_in i 124 (by omega)) (nm_r (e' := upd w i 0) (by rw [pk_cl i]) (nm_r (e' := nI (i + 1)) (nI_1 i) (ih (i + 1) (upd w i 0) (by omega) (fun j hj => ?_)))))
      by_cases q : j = i
      · subst q; exact pk_us
      · rw [pk_un q]; exact h j (by omega)
  exact ⟨125, loop 124 0 w (by omega) (fun j hj => absurd hj (Nat.not_lt_zero _))⟩
theorem ys_save0 {post : Int32 → SY → Prop} (h : w 1 = 0) (k : post 0 (sz, o, nu, w, sv)) : wpY_save post (sz, o, nu, w, sv) :=
  ⟨1, br_f (nI_ge (b := 124) (a := 0) (by decide) (by decide)) (br_t h (br_t h k))⟩
theorem ys_save1 {post : Int32 → SY → Prop} (h : ¬ w 1 = 0) (k : ∀ sv', (∀ j, j < 124 → sv' j = w j) → post 1 (sz, o, nu, w, sv')) : wpY_save post (sz, o, nu, w, sv) := by
  have loop : ∀ dd i (sv : Nat → Int32), i + dd = 124 → (∀ j, j < i → sv j = w j) → wY_save_2 post sz (dd + 1) (nI i) o nu w sv := by
    intro dd
    induction dd with
    | zero =>
      intro i sv hi h'
      exact br_t (nI_le (a := 124) (by omega) (by omega)) (br_f h (k sv (fun j hj => h' j (by omega))))
    | succ dd ih =>
      intro i sv hi h'
      have vi : vp_in (nI i) 124 := pk_in i 124 (by omega)
      refine br_f (nI_ge (b := 124) (by omega) (by decide)) (br_f h (And.intro vi (And.intro vi (nm_r (e' := upd sv i (w i)) (by rw [pk_cl i]) (nm_r (e' := nI (i + 1)) (nI_1 i) (ih (i + 1) (upd sv i (w i)) (by omega) (fun j hj => ?_)))))))
      by_cases q : j = i
      · subst q; exact pk_us
      · rw [pk_un q]; exact h' j (by omega)
  exact ⟨125, loop 124 0 sv (by omega) (fun j hj => absurd hj (Nat.not_lt_zero _))⟩
theorem ys_crash0 {post : Int32 → SY → Prop} (h : w 1 = 0) (k : post 0 (sz, o, nu, w, sv)) : wpY_crash post (sz, o, nu, w, sv) :=
  br_t h ⟨1, br_f (nI_ge (b := 124) (a := 0) (by decide) (by decide)) (br_t rfl (And.intro rfl k))⟩
theorem ys_crash1 {post : Int32 → SY → Prop} (h : ¬ w 1 = 0) (k : ∀ w', (∀ j, j < 124 → w' j = sv j) → post 1 (sz, o, nu, w', sv)) : wpY_crash post (sz, o, nu, w, sv) := by
  have loop : ∀ dd i (w : Nat → Int32), i + dd = 124 → (∀ j, j < i → w j = sv j) → wY_crash_17 post 1 sz (dd + 1) (nI i) o nu w sv := by
    intro dd
    induction dd with
    | zero =>
      intro i w hi h'
      exact br_t (nI_le (a := 124) (by omega) (by omega)) (And.intro rfl (k w (fun j hj => h' j (by omega))))
    | succ dd ih =>
      intro i w hi h'
      have vi : vp_in (nI i) 124 := pk_in i 124 (by omega)
      refine br_f (nI_ge (b := 124) (by omega) (by decide)) (br_f (by decide) (And.intro vi (And.intro vi (nm_r (e' := upd w i (sv i)) (by rw [pk_cl i]) (nm_r (e' := nI (i + 1)) (nI_1 i) (ih (i + 1) (upd w i (sv i)) (by omega) (fun j hj => ?_)))))))
      by_cases q : j = i
      · subst q; exact pk_us
      · rw [pk_un q]; exact h' j (by omega)
  exact br_f h ⟨125, loop 124 0 w (by omega) (fun j hj => absurd hj (Nat.not_lt_zero _))⟩
end YS
/-! a number that fits its operation -/
def am_fit (q : Nat) (n : Int32) : Prop := (q = 0 → -1000 ≤ n.toInt ∧ n.toInt ≤ 1000) ∧ (q = 16 ∨ q = 17 → 0 ≤ n.toInt ∧ n.toInt < 64) ∧ (q = 18 ∨ q = 19 ∨ q = 20 → 0 ≤ n.toInt ∧ n.toInt ≤ 40)
theorem i32_m1000 : (-1000 : Int32).toInt = -1000 := by decide
theorem i32_1000 : (1000 : Int32).toInt = 1000 := by decide
theorem i32_0 : (0 : Int32).toInt = 0 := by decide
theorem i32_64 : (64 : Int32).toInt = 64 := by decide
theorem i32_63 : (63 : Int32).toInt = 63 := by decide
theorem i32_40 : (40 : Int32).toInt = 40 := by decide
theorem fi_0 {post : Int32 → Prop} {n : Int32} (h1 : am_fit 0 n → post 1) (h0 : ¬ am_fit 0 n → post 0) : (n < (-1000) → post 0) ∧ (¬ n < (-1000) → (1000 < n → post 0) ∧ (¬ 1000 < n → post 1)) := by
  have e1 : n < (-1000) ↔ n.toInt < -1000 := by rw [Int32.lt_iff_toInt_lt, i32_m1000]
  have e2 : 1000 < n ↔ 1000 < n.toInt := by rw [Int32.lt_iff_toInt_lt, i32_1000]
  rw [e1, e2]
  refine br_c (fun z => h0 (fun q => ?_)) (fun z => br_c (fun y => h0 (fun q => ?_)) (fun y => h1 ⟨fun _ => by omega, fun q => by omega, fun q => by omega⟩))
  · have := q.1 rfl; omega
  · have := q.1 rfl; omega
theorem fi_x {post : Int32 → Prop} {q : Nat} {n : Int32} (hq : q ≤ 24) (h1 : am_fit q n → post 1) (h0 : ¬ am_fit q n → post 0) : wpX_numberOk post (nI q) n := by
  have e1 : n < 0 ↔ n.toInt < 0 := by rw [Int32.lt_iff_toInt_lt, i32_0]
  have e2 : 64 ≤ n ↔ 64 ≤ n.toInt := by rw [Int32.le_iff_toInt_le, i32_64]
  have e3 : 40 < n ↔ 40 < n.toInt := by rw [Int32.lt_iff_toInt_lt, i32_40]
  have h36 : (q = 16 ∨ q = 17) → wX_numberOk_36 post n := by
    intro z
    unfold wX_numberOk_36
    rw [e1, e2]
    refine br_c (fun y => h0 (fun w => ?_)) (fun y => br_c (fun w => h0 (fun v => ?_)) (fun w => h1 ⟨fun _ => by omega, fun _ => by omega, fun _ => by omega⟩))
    · have := w.2.1 z; omega
    · have := v.2.1 z; omega
  have h70 : (q = 18 ∨ q = 19 ∨ q = 20) → wX_numberOk_70 post n := by
    intro z
    unfold wX_numberOk_70 wX_numberOk_75
    rw [e1, e3]
    refine br_f (by decide) (br_c (fun y => h0 (fun w => ?_)) (fun y => br_c (fun w => h0 (fun v => ?_)) (fun w => h1 ⟨fun _ => by omega, fun _ => by omega, fun _ => by omega⟩)))
    · have := w.2.2 z; omega
    · have := v.2.2 z; omega
  refine pk_eq q 0 (fun z => ?_) (fun z0 => pk_eq q 16 (fun z => h36 (by omega)) (fun z16 => pk_eq q 17 (fun z => h36 (by omega)) (fun z17 => pk_eq q 18 (fun z => h70 (by omega)) (fun z18 => pk_eq q 19 (fun z => h70 (by omega)) (fun z19 => pk_eq q 20 (fun z => h70 (by omega)) (fun z20 => br_t rfl (h1 ⟨fun _ => by omega, fun _ => by omega, fun _ => by omega⟩)))))))
  subst z
  exact fi_0 h1 h0
theorem fi_y {post : Int32 → Prop} {q : Nat} {n : Int32} {v : SY} (hq : q ≤ 24) (h1 : am_fit q n → post 1) (h0 : ¬ am_fit q n → post 0) : wpY_fits post v (nI q) n := by
  have e1 : n < 0 ↔ n.toInt < 0 := by rw [Int32.lt_iff_toInt_lt, i32_0]
  have e2 : 63 < n ↔ 63 < n.toInt := by rw [Int32.lt_iff_toInt_lt, i32_63]
  have e3 : 40 < n ↔ 40 < n.toInt := by rw [Int32.lt_iff_toInt_lt, i32_40]
  have h38 : (q = 16 ∨ q = 17) → wY_fits_38 post n v.1 v.2.1 v.2.2.1 v.2.2.2.1 v.2.2.2.2 := by
    intro z
    unfold wY_fits_38
    rw [e1, e2]
    refine br_c (fun y => h0 (fun w => ?_)) (fun y => br_c (fun w => h0 (fun v => ?_)) (fun w => h1 ⟨fun _ => by omega, fun _ => by omega, fun _ => by omega⟩))
    · have := w.2.1 z; omega
    · have := v.2.1 z; omega
  have h20 : (q = 18 ∨ q = 19 ∨ q = 20) → (n < 0 → post 0) ∧ (¬ n < 0 → (40 < n → post 0) ∧ (¬ 40 < n → post 1)) := by
    intro z
    rw [e1, e3]
    refine br_c (fun y => h0 (fun w => ?_)) (fun y => br_c (fun w => h0 (fun v => ?_)) (fun w => h1 ⟨fun _ => by omega, fun _ => by omega, fun _ => by omega⟩))
    · have := w.2.2 z; omega
    · have := v.2.2 z; omega
  have hfree : ¬ (q = 0 ∨ q = 16 ∨ q = 17 ∨ q = 18 ∨ q = 19 ∨ q = 20) → post 1 := fun z => h1 ⟨fun _ => by omega, fun _ => by omega, fun _ => by omega⟩
  refine pk_eq q 0 (fun z => ?_) (fun z0 => pk_eq q 16 (fun z => h38 (by omega)) (fun z16 => pk_eq q 17 (fun z => h38 (by omega)) (fun z17 => pk_lt q 18 (fun z => hfree (by omega)) (fun z18 => pk_lt 20 q (fun z => hfree (by omega)) (fun z20 => h20 (by omega))))))
  subst z
  exact fi_0 h1 h0
section XS2
variable {c : ty_C} {m : ty_M} {e : ty_E} {b : ty_B} {x : ty_X} {d : ty_D}
theorem xs_reset {post : SX → Prop} {st : Int32} (k : ∀ m', rx_R m' st am_0 → gm_changedPages m' = 65535 → post (mk_S c m' e b x d)) : wpX_reset post (mk_S c m e b x d) st := by
  have loop : ∀ dd i (w : Nat → Int32), i + dd = 64 → (∀ j, j < i → w j = 0) → lo_reset_32 post (dd + 1) (nI i) c ((st, 0, 0, 0, 0, 0, gm_changedPages m, gm_stack m, gm_returns m, w, gm_inputs m, gm_outs m)) e b x d := by
    intro dd
    induction dd with
    | zero =>
      intro i w hi h
      exact br_t (nI_le (a := 64) (by omega) (by omega)) (k ((st, 0, 0, 0, 0, 0, 65535, gm_stack m, gm_returns m, w, gm_inputs m, gm_outs m)) ⟨rfl, rfl, rfl, rfl, rfl, rfl, trivial, trivial, trivial, trivial, fun j hj => h j (by omega)⟩ rfl)
    | succ dd ih =>
      intro i w hi h
      refine br_f (nI_ge (b := 64) (by omega) (by decide)) (And.intro (pk_in i 64 (by omega)) (nm_r (e' := upd w i 0) ?_ (nm_r (e' := nI (i + 1)) (nI_1 i) (ih (i + 1) (upd w i 0) (by omega) (fun j hj => ?_)))))
      · show upd w (nI i).toNatClampNeg 0 = _
        rw [pk_cl i]
      · by_cases q : j = i
        · subst q; exact pk_us
        · rw [pk_un q]; exact h j (by omega)
  exact ⟨65, loop 64 0 (gm_words m) (by omega) (fun j hj => absurd hj (Nat.not_lt_zero _))⟩
end XS2
theorem ch_full : ∀ g, g < 8 → ¬ (((65535 : Int32) >>> (nI g &&& 31)) &&& 1) = 0 := by decide +kernel
theorem ch_none (w : Nat → Int32) : ch_R 0 w w := fun _ _ _ _ _ => rfl
end
section
/-- the two states stand for one machine with one code, and for one saved machine -/
def ir_R (k : Nat) (c : ty_C) (m : ty_M) (b : ty_B) (x : ty_X) (d : ty_D) (fs : Int32) (o nu w sv : Nat → Int32) : Prop :=
  ∃ (sz : Nat) (op : Nat → Nat) (num : Nat → Int32) (st : Int32) (A : am_T) (N : Nat) (s z : Nat → Int32) (stS : Int32) (AS : am_T), am_code sz op num ∧ cx_R c sz op num ∧ ry_C fs o nu sz op num ∧ am_ok A ∧ rx_R m st A ∧ ry_R w st A ∧ N ≤ k ∧ dk_R d N s z ∧
    (0 < N → am_ok AS ∧ pk_R z stS AS ∧ (∀ i, i < 64 → s i = AS.2.2.2.2.2 i) ∧ ry_R sv stS AS ∧ ¬ stS = 0) ∧ (¬ st = 0 → 0 < N ∧ ch_R (gm_changedPages m) (gm_words m) s ∧ tk_R sz op num b x)
theorem ir_up {k j : Nat} {c : ty_C} {m : ty_M} {b : ty_B} {x : ty_X} {d : ty_D} {fs : Int32} {o nu w sv : Nat → Int32} (h : ir_R k c m b x d fs o nu w sv) (hj : k ≤ j) : ir_R j c m b x d fs o nu w sv := by
  obtain ⟨sz, op, num, st, A, N, s, z, stS, AS, h1, h2, h3, h4, h5, h6, h7, h8⟩ := h
  exact ⟨sz, op, num, st, A, N, s, z, stS, AS, h1, h2, h3, h4, h5, h6, by omega, h8⟩
def i_Rel (k : Nat) (u : SX) (v : SY) : Prop := ir_R k (pr_C u) (pr_M u) (pr_B u) (pr_X u) (pr_D u) v.1 v.2.1 v.2.2.1 v.2.2.2.1 v.2.2.2.2
section IZ
variable {k : Nat} {c : ty_C} {m : ty_M} {e : ty_E} {b : ty_B} {x : ty_X} {d : ty_D} {fs : Int32} {o nu w sv : Nat → Int32}
/-- the code has changed: all is as at the beginning -/
theorem iz_off {sz : Nat} {op : Nat → Nat} {num : Nat → Int32} {c' : ty_C} {m' : ty_M} {fs' : Int32} {o' nu' w' : Nat → Int32} (h : ir_R k c m b x d fs o nu w sv) (hcode : am_code sz op num) (hc : cx_R c' sz op num) (hy : ry_C fs' o' nu' sz op num) (hm : rx_R m' 0 am_0) (hw : ∀ j, j < 124 → w' j = 0) : ir_R (k + 3) c' m' b x d fs' o' nu' w' sv := by
  obtain ⟨sz0, op0, num0, st, A, N, s, z, stS, AS, h1, h2, h3, h4, h5, h6, h7, h8, h9, h10⟩ := h
  exact ⟨sz, op, num, 0, am_0, N, s, z, stS, AS, hcode, hc, hy, am_ok_0, hm, ry_0 hw, by omega, h8, h9, fun q => absurd rfl q⟩
theorem iz_emit (I : ir_R k c m b x d fs o nu w sv) (v1 v2 : Int32) : wpX_emit (fun r u' => wpY_emit (fun r' v' => r' = r ∧ i_Rel (k + 3) u' v') (fs, o, nu, w, sv) v1 v2) (mk_S c m e b x d) v1 v2 := by
  have I3 : ir_R (k + 3) c m b x d fs o nu w sv := ir_up I (by omega)
  have hI := I
  obtain ⟨sz, op, num, st, A, N, s, z, stS, AS, h1, ⟨x1, x2, x3⟩, ⟨y1, y2, y3⟩, h4, h5, h6, h7, h8, h9, h10⟩ := hI
  have hsz := h1.1
  refine br_c (fun z0 => br_t z0 ⟨rfl, I3⟩) (fun z0 => br_c (fun z24 => br_f z0 (br_t z24 ⟨rfl, I3⟩)) (fun z24 => ?_))
  obtain ⟨q, hq, rfl⟩ := nI_of2 (n := 24) (M := 24) (by decide) z0 (Int32.not_lt.mp z24)
  refine fi_x hq (fun hf => br_f (by decide) (pk_lt sz 40 (fun hlt => ?_) (fun hge => ?_) x1)) (fun hnf => br_t rfl (br_f z0 (br_f z24 (fi_y hq (fun hf => absurd hf hnf) (fun _ => br_t rfl ⟨rfl, I3⟩)))))
  · have vs : vp_in (gc_size c) 40 := pk_in sz 40 hlt x1
    have cs : (gc_size c).toNatClampNeg = sz := pk_cl sz x1
    refine And.intro vs (nm_r (e' := upd (gc_ops c) sz (nI q)) ?_ (And.intro vs (nm_r (e' := upd (gc_numbers c) sz v2.toInt16.toInt32) ?_ (nm_r (e' := nI (sz + 1)) ?_ ?_))))
    · show upd (gc_ops c) (gc_size c).toNatClampNeg (vp_nar .byte (nI q).toInt8.toInt32) = _
      rw [cs, pk_vb, wi_b (by omega)]
    · show upd (gc_numbers c) (gc_size c).toNatClampNeg (vp_nar .short v2.toInt16.toInt32) = _
      rw [cs, pk_vs]
    · show gc_size c + 1 = _
      rw [x1, nI_1]
    · refine xs_reset (c := (nI (sz + 1), upd (gc_ops c) sz (nI q), upd (gc_numbers c) sz v2.toInt16.toInt32)) (m := m) (e := e) (b := b) (x := x) (d := d) (fun m' hm' _ => ?_)
      refine br_f z0 (br_f z24 (fi_y hq (fun _ => br_f (by decide) (pk_lt sz 40 (fun _ => ?_) (fun hge => absurd hge (by omega)) y1)) (fun hnf => absurd hf hnf)))
      have vy : vp_in fs 40 := pk_in sz 40 hlt y1
      have cy : fs.toNatClampNeg = sz := pk_cl sz y1
      refine And.intro vy (nm_r (e' := upd o sz (nI q)) (by rw [cy]) (And.intro vy (nm_r (e' := upd nu sz v2) (by rw [cy]) (nm_r (e' := nI (sz + 1)) (by rw [y1, nI_1]) (ys_clear (fun w' hw' => ⟨rfl, ?_⟩))))))
      have hq32 : q < 2 ^ 31 := by omega
      have hfull : am_code (sz + 1) (fun i => if i = sz then q else op i) (fun i => if i = sz then v2 else num i) := by
        refine ⟨by omega, fun i hi => ?_⟩
        dsimp only
        by_cases e0 : i = sz
        · rw [if_pos e0, if_pos e0]
          refine ⟨hq, fun hz => ?_, fun hz => ?_⟩
          · have := hf.2.1 hz
            obtain ⟨j, hj, ej⟩ := nI_of (x := v2) (fun y => by have := Int32.lt_iff_toInt_lt.mp y; rw [i32_0] at this; omega)
            refine ⟨j, ?_, ej⟩
            rw [ej, nI_toInt hj] at this; omega
          · have := hf.2.2 hz
            obtain ⟨j, hj, ej⟩ := nI_of (x := v2) (fun y => by have := Int32.lt_iff_toInt_lt.mp y; rw [i32_0] at this; omega)
            refine ⟨j, ?_, ej⟩
            rw [ej, nI_toInt hj] at this; omega
        · rw [if_neg e0, if_neg e0]; exact h1.2 i (by omega)
      refine iz_off (c' := (nI (sz + 1), upd (gc_ops c) sz (nI q), upd (gc_numbers c) sz v2.toInt16.toInt32)) I hfull ⟨rfl, fun i hi => ?_, fun i hi hu => ?_⟩ ⟨rfl, fun i hi => ?_, fun i hi => ?_⟩ hm' hw'
      · show upd (gc_ops c) sz (nI q) i = nI (if i = sz then q else op i)
        by_cases e0 : i = sz
        · rw [if_pos e0, e0, pk_us]
        · rw [if_neg e0, pk_un e0]; exact x2 i (by omega)
      · show upd (gc_numbers c) sz v2.toInt16.toInt32 i = (if i = sz then v2 else num i)
        by_cases e0 : i = sz
        · rw [if_pos e0, e0, pk_us]
          dsimp only at hu
          rw [if_pos e0] at hu
          apply lg_i2s_small
          · rcases hu with hu | hu | hu | hu | hu | hu
            · have := hf.1 hu; omega
            · have := hf.2.1 (Or.inl hu); omega
            · have := hf.2.1 (Or.inr hu); omega
            · have := hf.2.2 (Or.inl hu); omega
            · have := hf.2.2 (Or.inr (Or.inl hu)); omega
            · have := hf.2.2 (Or.inr (Or.inr hu)); omega
          · rcases hu with hu | hu | hu | hu | hu | hu
            · have := hf.1 hu; omega
            · have := hf.2.1 (Or.inl hu); omega
            · have := hf.2.1 (Or.inr hu); omega
            · have := hf.2.2 (Or.inl hu); omega
            · have := hf.2.2 (Or.inr (Or.inl hu)); omega
            · have := hf.2.2 (Or.inr (Or.inr hu)); omega
        · rw [if_neg e0, pk_un e0]
          dsimp only at hu
          rw [if_neg e0] at hu
          exact x3 i (by omega) hu
      · show upd o sz (nI q) i = nI (if i = sz then q else op i)
        by_cases e0 : i = sz
        · rw [if_pos e0, e0, pk_us]
        · rw [if_neg e0, pk_un e0]; exact y2 i (by omega)
      · show upd nu sz v2 i = (if i = sz then v2 else num i)
        by_cases e0 : i = sz
        · rw [if_pos e0, e0, pk_us]
        · rw [if_neg e0, pk_un e0]; exact y3 i (by omega)
  · exact br_f z0 (br_f z24 (fi_y hq (fun _ => br_f (by decide) (pk_lt sz 40 (fun hlt => absurd hge (by omega)) (fun _ => ⟨rfl, I3⟩) y1)) (fun hnf => absurd hf hnf)))
theorem iz_drop (I : ir_R k c m b x d fs o nu w sv) : wpX_drop (fun r u' => wpY_drop (fun r' v' => r' = r ∧ i_Rel (k + 3) u' v') (fs, o, nu, w, sv)) (mk_S c m e b x d) := by
  have I3 : ir_R (k + 3) c m b x d fs o nu w sv := ir_up I (by omega)
  have hI := I
  obtain ⟨sz, op, num, st, A, N, s, z, stS, AS, h1, ⟨x1, x2, x3⟩, ⟨y1, y2, y3⟩, h4, h5, h6, h7, h8, h9, h10⟩ := hI
  have hsz := h1.1
  refine pk_eq sz 0 (fun z0 => pk_eq sz 0 (fun _ => ⟨rfl, I3⟩) (fun n => absurd z0 n) y1) (fun z0 => nm_r (e' := nI (sz - 1)) ?_ ?_) x1
  · show gc_size c - 1 = _
    rw [x1]; exact pk_sub (b := 1) (by omega)
  · refine xs_reset (c := (nI (sz - 1), gc_ops c, gc_numbers c)) (m := m) (e := e) (b := b) (x := x) (d := d) (fun m' hm' _ => ?_)
    refine pk_eq sz 0 (fun n => absurd n z0) (fun _ => nm_r (e' := nI (sz - 1)) (by rw [y1]; exact pk_sub (b := 1) (by omega)) (ys_clear (fun w' hw' => ⟨rfl, ?_⟩))) y1
    exact iz_off (c' := (nI (sz - 1), gc_ops c, gc_numbers c)) I ⟨by omega, fun i hi => h1.2 i (by omega)⟩ ⟨rfl, fun i hi => x2 i (by omega), fun i hi => x3 i (by omega)⟩ ⟨rfl, fun i hi => y2 i (by omega), fun i hi => y3 i (by omega)⟩ hm' hw'
theorem iz_boot (hk : k + 3 ≤ 1536) (I : ir_R k c m b x d fs o nu w sv) : wpX_boot (fun r u' => wpY_boot (fun r' v' => r' = r ∧ i_Rel (k + 3) u' v') (fs, o, nu, w, sv)) (mk_S c m e b x d) := by
  obtain ⟨sz, op, num, st, A, N, s, z, stS, AS, h1, hC, hY, h4, h5, h6, h7, h8, h9, h10⟩ := I
  unfold wpX_boot mk_S; dsimp only
  refine xs_reset (c := c) (m := m) (e := e) (b := b) (x := x) (d := d) (fun m' hm' hch => ?_)
  refine xm_translate (c := c) (m := m') (e := e) (b := b) (x := x) (d := d) h1 hC (fun b' x' htk => ?_)
  refine xz_save (c := c) (m := m') (e := e) (b := b') (x := x') (d := d) (N := N) (s := s) (z0 := z) am_ok_0 hm' (by omega) h8 (fun g hg hb => absurd (by rw [hch] at hb; exact hb) (ch_full g hg)) (fun d' z' hz' hd' => ?_)
  unfold wpY_boot; dsimp only
  refine ys_clear (fun w' hw' => nm_e ?_)
  have hw1 : ry_R (upd w' 1 1) 1 am_0 := ry_st 1 (ry_0 hw')
  refine ys_save1 (by rw [pk_us]; decide) (fun sv' hsv => ⟨?_, ?_⟩)
  · show fs = gc_size c
    rw [hY.1, hC.1]
  · refine ⟨sz, op, num, 1, am_0, N + 1, gm_words m', z', 1, am_0, h1, hC, hY, am_ok_0, ?_, hw1, by omega, hd', fun _ => ⟨am_ok_0, hz', hm'.2.2.2.2.2.2.2.2.2.2, ry_cg am_ok_0 hsv hw1, by decide⟩, fun _ => ⟨by omega, ch_none _, htk⟩⟩
    obtain ⟨a0, a1, a2, a3, a4, a5, as, ar, ai, ao, aw⟩ := hm'
    exact ⟨a0, a1, a2, a3, a4, a5, as, ar, ai, ao, aw⟩
theorem iz_feed (I : ir_R k c m b x d fs o nu w sv) (v1 : Int32) : wpX_feed (fun r u' => wpY_feed (fun r' v' => r' = r ∧ i_Rel (k + 3) u' v') (fs, o, nu, w, sv) v1) (mk_S c m e b x d) v1 := by
  have I3 : ir_R (k + 3) c m b x d fs o nu w sv := ir_up I (by omega)
  obtain ⟨sz, op, num, st, A, N, s, z, stS, AS, h1, hC, hY, h4, h5, h6, h7, h8, h9, h10⟩ := I
  obtain ⟨p, S, R, I, O, W⟩ := A
  have hx := h5
  have hy := h6
  obtain ⟨a0, a1, a2, a3, a4, a5, as, ar, ai, ao, aw⟩ := h5
  obtain ⟨b0, b1, b2, b3, b4, b5, bs, br, bi, bo, bw⟩ := h6
  have okk := h4
  obtain ⟨o0, o1, o2, o3, o4, o5⟩ := h4
  dsimp only at a0 a1 a2 a3 a4 a5 as ar ai ao aw b0 b1 b2 b3 b4 b5 bs br bi bo bw o0 o1 o2 o3 o4 o5
  refine br_c (fun z0 => br_t (by rw [b1, ← a0]; exact z0) ⟨rfl, I3⟩) (fun z0 => ?_)
  have hst : ¬ st = 0 := fun q => z0 (a0.trans q)
  have z0' : ¬ w 1 = 0 := fun q => hst (b1.symm.trans q)
  refine pk_lt I.length 10 (fun hlt => ?_) (fun hge => br_f z0' (pk_lt I.length 10 (fun y => absurd hge (by omega)) (fun _ => ⟨rfl, I3⟩) b4)) a4
  refine And.intro (pk_in I.length 10 hlt a4) (nm_r (e' := upd (gm_inputs m) I.length v1) ?_ (nm_r (e' := nI (I.length + 1)) ?_ ?_))
  · show upd (gm_inputs m) (gm_inputSize m).toNatClampNeg v1 = _
    rw [pk_cl I.length a4]
  · show gm_inputSize m + 1 = _
    rw [a4, nI_1]
  have hqu : qu_R (upd (gm_inputs m) I.length v1) 0 (I ++ [v1]) := qu_app (qu_mv (fun i hi => pk_un (by omega)) ai) (by rw [Nat.zero_add, pk_us])
  have hla : (I ++ [v1]).length = I.length + 1 := by rw [List.length_append]; rfl
  have ok' : am_ok (p, S, R, I ++ [v1], O, W) := ⟨o0, o1, o2, by dsimp only; rw [hla]; omega, o4, o5⟩
  -- both sides, at the new status
  have fin : ∀ st' : Int32, ¬ st' = 0 → ∀ w', ry_R w' st' (p, S, R, I ++ [v1], O, W) → ir_R (k + 3) c ((st', gm_at m, gm_stackSize m, gm_returnSize m, nI (I.length + 1), gm_outputSize m, gm_changedPages m, gm_stack m, gm_returns m, gm_words m, upd (gm_inputs m) I.length v1, gm_outs m)) b x d fs o nu w' sv := by
    intro st' hst' w' hw'
    refine ⟨sz, op, num, st', (p, S, R, I ++ [v1], O, W), N, s, z, stS, AS, h1, hC, hY, ok', ⟨rfl, a1, a2, a3, ?_, a5, as, ar, hqu, ao, aw⟩, hw', by omega, h8, h9, fun _ => h10 hst⟩
    show nI (I.length + 1) = nI (I ++ [v1]).length
    rw [hla]
  have ea : 30 + w 4 = nI (30 + I.length) := by rw [b4]; exact nI_add 30 _
  have hfeed := ry_feed v1 hlt okk hy
  have yside : ∀ {Pt : Int32 → SY → Prop}, (st = 3 → Pt (nI (I.length + 1)) (fs, o, nu, upd (upd (upd w (30 + I.length) v1) 4 (nI (I.length + 1))) 1 1, sv)) → (¬ st = 3 → Pt (nI (I.length + 1)) (fs, o, nu, upd (upd (upd w (30 + I.length) v1) 4 (nI (I.length + 1))) 1 st, sv)) → wpY_feed Pt (fs, o, nu, w, sv) v1 := by
    intro Pt g1 g2
    refine br_f z0' (pk_lt I.length 10 (fun _ => And.intro (pk_in (30 + I.length) 124 (by omega) ea) (nm_r (e' := upd w (30 + I.length) v1) (by rw [pk_cl (30 + I.length) ea]) (nm_r (e' := upd (upd w (30 + I.length) v1) 4 (nI (I.length + 1))) ?_ ?_))) (fun y => absurd hlt (by omega)) b4)
    · rw [pk_un (by omega), b4, nI_1]
    · have e1 : upd (upd w (30 + I.length) v1) 4 (nI (I.length + 1)) 1 = st := hfeed.2.1
      rw [e1]
      refine br_c (fun y => nm_e ?_) (fun y => nm_e ?_)
      · rw [show upd (upd (upd w (30 + I.length) v1) 4 (nI (I.length + 1))) 1 1 4 = nI (I.length + 1) by rw [pk_un (by omega), pk_us]]; exact g1 y
      · rw [show upd (upd (upd w (30 + I.length) v1) 4 (nI (I.length + 1))) 1 st 4 = nI (I.length + 1) by rw [pk_un (by omega), pk_us]]; exact g2 y
  refine br_c (fun y => ?_) (fun y => ?_)
  · have y' : st = 3 := a0.symm.trans y
    exact yside (fun _ => ⟨rfl, fin 1 (by decide) _ (ry_st 1 hfeed)⟩) (fun n => absurd y' n)
  · have y' : ¬ st = 3 := fun q => y (a0.trans q)
    have key := fin st hst _ (ry_st st hfeed)
    rw [← a0] at key
    refine yside (fun n => absurd n y') (fun _ => ⟨rfl, ?_⟩)
    rw [← a0]
    exact key
end IZ
end
section
section IZ
variable {k : Nat} {c : ty_C} {m : ty_M} {e : ty_E} {b : ty_B} {x : ty_X} {d : ty_D} {fs : Int32} {o nu w sv : Nat → Int32}
theorem iz_step (I : ir_R k c m b x d fs o nu w sv) (v1 : Int32) : wpX_step (fun r u' => wpY_step (fun r' v' => r' = r ∧ i_Rel (k + 3) u' v') (fs, o, nu, w, sv) v1) (mk_S c m e b x d) v1 := by
  have I3 : ir_R (k + 3) c m b x d fs o nu w sv := ir_up I (by omega)
  obtain ⟨sz, op, num, st, A, N, s, z, stS, AS, h1, hC, hY, h4, h5, h6, h7, h8, h9, h10⟩ := I
  -- at most lim steps on both sides
  have main : ∀ lim, lim ≤ 300 → ∃ n, lo_step_25 (fun r u' => ∃ n17, wY_step_17 (fun r' v' => r' = r ∧ i_Rel (k + 3) u' v') (nI lim) n17 0 fs o nu w sv) (nI lim) n 0 c m e b x d := by
    intro lim hl
    by_cases hst : st = 1
    · subst hst
      obtain ⟨n1, n2, n3⟩ := h10 (by decide)
      refine ⟨lim + 2, xq_loop (s := s) h1 hC n3 lim hl lim lim 0 (lim + 2) m e A (Nat.le_refl _) (Nat.le_refl _) (by omega) h4 ⟨h5, n2⟩ (fun m' e' hm' ok' => ⟨lim + 2, ym_loop h1 hY lim hl lim 0 w A (by omega) h4 h6 (fun w' hw' _ => ⟨rfl, ?_⟩)⟩)⟩
      exact ⟨sz, op, num, _, _, N, s, z, stS, AS, h1, hC, hY, ok', hm'.1, hw', by omega, h8, h9, fun _ => ⟨n1, hm'.2, n3⟩⟩
    · have hx : ¬ gm_status m = 1 := fun q => hst (h5.1.symm.trans q)
      have hy : ¬ w 1 = 1 := fun q => hst (h6.2.1.symm.trans q)
      exact ⟨1, xq_off 0 hx ⟨1, ym_off hy 0 ⟨rfl, I3⟩⟩⟩
  by_cases hneg : 0 ≤ v1
  · by_cases h300 : v1 ≤ 300
    · obtain ⟨j, hj, rfl⟩ := nI_of2 (n := 300) (M := 300) (by decide) (Int32.not_lt.mpr hneg) h300
      refine br_t hneg (br_t h300 ?_)
      obtain ⟨n, hn⟩ := main j hj
      refine ⟨n, ?_⟩
      have conv : ∀ n cnt m e, lo_step_25 (fun r u' => ∃ n17, wY_step_17 (fun r' v' => r' = r ∧ i_Rel (k + 3) u' v') (nI j) n17 0 fs o nu w sv) (nI j) n cnt c m e b x d → lo_step_25 (fun r u' => wpY_step (fun r' v' => r' = r ∧ i_Rel (k + 3) u' v') (fs, o, nu, w, sv) (nI j)) (nI j) n cnt c m e b x d := by
        have hfun : (fun (r : Int32) (u' : SX) => ∃ n17, wY_step_17 (fun r' v' => r' = r ∧ i_Rel (k + 3) u' v') (nI j) n17 0 fs o nu w sv) = (fun (r : Int32) (u' : SX) => wpY_step (fun r' v' => r' = r ∧ i_Rel (k + 3) u' v') (fs, o, nu, w, sv) (nI j)) := by
          funext r u'
          apply propext
          exact ⟨fun q => br_t h300 q, fun q => q.1 h300⟩
        intro n cnt m e hq
        rw [← hfun]
        exact hq
      exact conv n 0 m e hn
    · refine br_t hneg (br_f h300 ?_)
      obtain ⟨n, hn⟩ := main 300 (Nat.le_refl _)
      refine ⟨n, ?_⟩
      have hfun : (fun (r : Int32) (u' : SX) => ∃ n17, wY_step_17 (fun r' v' => r' = r ∧ i_Rel (k + 3) u' v') (nI 300) n17 0 fs o nu w sv) = (fun (r : Int32) (u' : SX) => wpY_step (fun r' v' => r' = r ∧ i_Rel (k + 3) u' v') (fs, o, nu, w, sv) v1) := by
        funext r u'
        apply propext
        exact ⟨fun q => br_f h300 q, fun q => q.2 h300⟩
      rw [hfun] at hn
      exact hn
  · refine br_f hneg ⟨1, br_t (by decide) ?_⟩
    have hl : v1 < 0 := Int32.not_le.mp hneg
    have h0 : v1 ≤ 0 := Int32.le_of_lt hl
    have h300 : v1 ≤ 300 := Int32.le_trans h0 (by decide)
    exact br_t h300 ⟨1, br_t h0 ⟨rfl, I3⟩⟩
theorem iz_save (hk : k + 3 ≤ 1536) (I : ir_R k c m b x d fs o nu w sv) : wpX_save (fun r u' => wpY_save (fun r' v' => r' = r ∧ i_Rel (k + 3) u' v') (fs, o, nu, w, sv)) (mk_S c m e b x d) := by
  have I3 : ir_R (k + 3) c m b x d fs o nu w sv := ir_up I (by omega)
  obtain ⟨sz, op, num, st, A, N, s, z, stS, AS, h1, hC, hY, h4, h5, h6, h7, h8, h9, h10⟩ := I
  have e1 : gm_status m = st := h5.1
  refine br_c (fun z0 => ys_save0 (h6.2.1.trans (e1.symm.trans z0)) ⟨rfl, I3⟩) (fun z0 => ?_)
  have hst : ¬ st = 0 := fun q => z0 (e1.trans q)
  obtain ⟨n1, n2, n3⟩ := h10 hst
  refine xz_save (c := c) (m := m) (e := e) (b := b) (x := x) (d := d) (N := N) (s := s) (z0 := z) h4 h5 (by omega) h8 (fun g hg hb => ⟨n1, fun i hi => n2 g hg hb i hi⟩) (fun d' z' hz' hd' => br_f (by decide) ?_)
  refine ys_save1 (fun q => hst (h6.2.1.symm.trans q)) (fun sv' hsv => ⟨rfl, ?_⟩)
  refine ⟨sz, op, num, st, A, N + 1, gm_words m, z', st, A, h1, hC, hY, h4, ?_, h6, by omega, hd', fun _ => ⟨h4, hz', h5.2.2.2.2.2.2.2.2.2.2, ry_cg h4 hsv h6, hst⟩, fun _ => ⟨by omega, ch_none _, n3⟩⟩
  obtain ⟨a0, a1, a2, a3, a4, a5, as, ar, ai, ao, aw⟩ := h5
  exact ⟨a0, a1, a2, a3, a4, a5, as, ar, ai, ao, aw⟩
/-- the saved machine is there again -/
theorem iz_back {sz : Nat} {op : Nat → Nat} {num : Nat → Int32} {N : Nat} {s z : Nat → Int32} {stS : Int32} {AS : am_T} {m' : ty_M} {d' : ty_D} {w' : Nat → Int32} (h1 : am_code sz op num) (hC : cx_R c sz op num) (hY : ry_C fs o nu sz op num) (hN : N ≤ k) (hN0 : 0 < N) (ht : tk_R sz op num b x)
    (h9 : am_ok AS ∧ pk_R z stS AS ∧ (∀ i, i < 64 → s i = AS.2.2.2.2.2 i) ∧ ry_R sv stS AS ∧ ¬ stS = 0) (hm : rx_R m' stS AS) (hw : ∀ i, i < 64 → gm_words m' i = s i) (hd : dk_R d' N s z) (hw' : ∀ j, j < 124 → w' j = sv j) : ir_R (k + 3) c m' b x d' fs o nu w' sv :=
  ⟨sz, op, num, stS, AS, N, s, z, stS, AS, h1, hC, hY, h9.1, hm, ry_cg h9.1 hw' h9.2.2.2.1, by omega, hd, fun _ => h9, fun _ => ⟨hN0, fun g hg _ i hi => hw (g * 8 + i) (by omega), ht⟩⟩
theorem iz_crash (hk : k + 3 ≤ 1536) (I : ir_R k c m b x d fs o nu w sv) : wpX_crash (fun r u' => wpY_crash (fun r' v' => r' = r ∧ i_Rel (k + 3) u' v') (fs, o, nu, w, sv)) (mk_S c m e b x d) := by
  have I3 : ir_R (k + 3) c m b x d fs o nu w sv := ir_up I (by omega)
  obtain ⟨sz, op, num, st, A, N, s, z, stS, AS, h1, hC, hY, h4, h5, h6, h7, h8, h9, h10⟩ := I
  have e1 : gm_status m = st := h5.1
  refine br_c (fun z0 => ys_crash0 (h6.2.1.trans (e1.symm.trans z0)) ⟨rfl, I3⟩) (fun z0 => ?_)
  have hst : ¬ st = 0 := fun q => z0 (e1.trans q)
  obtain ⟨n1, n2, n3⟩ := h10 hst
  have h9' := h9 n1
  refine rv_recover (c := c) (m := m) (e := e) (b := b) (x := x) (d := d) n1 (by omega) h8 h9'.1 h9'.2.1 h9'.2.2.1 (fun m' d' q1 q2 q3 q4 => ?_)
  exact ys_crash1 (fun q => hst (h6.2.1.symm.trans q)) (fun w' hw' => ⟨rfl, iz_back h1 hC hY h7 n1 n3 h9' q1 q2 q4 hw'⟩)
theorem iz_cut (hk : k + 3 ≤ 1536) (I : ir_R k c m b x d fs o nu w sv) (v1 : Int32) : wpX_cut (fun r u' => wpY_cut (fun r' v' => r' = r ∧ i_Rel (k + 3) u' v') (fs, o, nu, w, sv) v1) (mk_S c m e b x d) v1 := by
  have I3 : ir_R (k + 3) c m b x d fs o nu w sv := ir_up I (by omega)
  obtain ⟨sz, op, num, st, A, N, s, z, stS, AS, h1, hC, hY, h4, h5, h6, h7, h8, h9, h10⟩ := I
  have e1 : gm_status m = st := h5.1
  refine br_c (fun z0 => br_c (fun _ => ⟨rfl, I3⟩) (fun _ => ?_)) (fun z0 => ?_)
  · exact ys_crash0 (h6.2.1.trans (e1.symm.trans z0)) (br_t rfl ⟨rfl, I3⟩)
  have hst : ¬ st = 0 := fun q => z0 (e1.trans q)
  obtain ⟨n1, n2, n3⟩ := h10 hst
  have h9' := h9 n1
  refine br_c (fun hr => ?_) (fun hr => br_t (Int32.not_le.mp hr) ⟨rfl, I3⟩)
  refine xz_cut (c := c) (m := m) (e := e) (b := b) (x := x) (d := d) (N := N) (s := s) (z0 := z) h4 h5 (by omega) h8 hr (fun d1 hd1 => ?_)
  refine rv_recover (c := c) (m := m) (e := e) (b := b) (x := x) (d := d1) n1 (by omega) hd1 h9'.1 h9'.2.1 h9'.2.2.1 (fun m' d' q1 q2 q3 q4 => ?_)
  refine br_f (Int32.not_lt.mpr hr) ?_
  exact ys_crash1 (fun q => hst (h6.2.1.symm.trans q)) (fun w' hw' => br_f (by decide) ⟨rfl, iz_back h1 hC hY h7 n1 n3 h9' q1 q2 q4 hw'⟩)
theorem iz_top (I : ir_R k c m b x d fs o nu w sv) (v1 : Int32) : wpX_top (fun r => wpY_top (fun r' => r' = r ∧ i_Rel (k + 3) (mk_S c m e b x d) (fs, o, nu, w, sv)) (fs, o, nu, w, sv) v1) (mk_S c m e b x d) v1 := by
  have I3 : ir_R (k + 3) c m b x d fs o nu w sv := ir_up I (by omega)
  obtain ⟨sz, op, num, st, A, N, s, z, stS, AS, h1, hC, hY, h4, h5, h6, h7, h8, h9, h10⟩ := I
  obtain ⟨p, S, R, I, O, W⟩ := A
  have a2 : gm_stackSize m = nI S.length := h5.2.2.1
  have b2 : w 2 = nI S.length := h6.2.2.1
  have as : sg_R (gm_stack m) 0 S := h5.2.2.2.2.2.2.1
  have bs : sg_R w 6 S := h6.2.2.2.2.2.2.1
  have o1 : S.length ≤ 16 := h4.2.1
  refine br_c (fun z0 => br_t z0 ⟨rfl, I3⟩) (fun z0 => ?_)
  obtain ⟨i, hi, rfl⟩ := nI_of z0
  refine pk_le S.length i (fun y => br_f z0 (pk_le S.length i (fun _ => ⟨rfl, I3⟩) (fun n => absurd y (by omega)) b2)) (fun y => ?_) a2
  have e1 : (gm_stackSize m - 1) - nI i = nI (S.length - 1 - i) := by
    rw [a2, show nI S.length - 1 = nI (S.length - 1) from pk_sub (b := 1) (by omega), pk_sub (by omega)]
  have e2 : (5 + w 2) - nI i = nI (6 + (S.length - 1 - i)) := by
    rw [b2, show (5 : Int32) = nI 5 from rfl, nI_add, pk_sub (by omega)]; exact congrArg nI (by omega)
  refine And.intro (pk_in (S.length - 1 - i) 16 (by omega) e1) (br_f z0 (pk_le S.length i (fun n => absurd y (by omega)) (fun _ => And.intro (pk_in (6 + (S.length - 1 - i)) 124 (by omega) e2) ⟨?_, I3⟩) b2))
  show w ((5 + w 2) - nI i).toNatClampNeg = gm_stack m ((gm_stackSize m - 1) - nI i).toNatClampNeg
  rw [pk_cl (S.length - 1 - i) e1, pk_cl (6 + (S.length - 1 - i)) e2]
  have g1 := sg_get as y
  have g2 := sg_get bs y
  rw [Nat.zero_add] at g1
  rw [g1, g2]
theorem iz_memory (I : ir_R k c m b x d fs o nu w sv) (v1 : Int32) : wpX_memory (fun r => wpY_memory (fun r' => r' = r ∧ i_Rel (k + 3) (mk_S c m e b x d) (fs, o, nu, w, sv)) (fs, o, nu, w, sv) v1) (mk_S c m e b x d) v1 := by
  have I3 : ir_R (k + 3) c m b x d fs o nu w sv := ir_up I (by omega)
  obtain ⟨sz, op, num, st, A, N, s, z, stS, AS, h1, hC, hY, h4, h5, h6, h7, h8, h9, h10⟩ := I
  refine br_c (fun z0 => br_t z0 ⟨rfl, I3⟩) (fun z0 => ?_)
  obtain ⟨i, hi, rfl⟩ := nI_of z0
  refine pk_le 64 i (fun y => br_f z0 (pk_lt 63 i (fun _ => ⟨rfl, I3⟩) (fun n => absurd y (by omega)))) (fun y => ?_)
  have e2 : (60 : Int32) + nI i = nI (60 + i) := nI_add 60 i
  refine And.intro (pk_in i 64 y) (br_f z0 (pk_lt 63 i (fun n => absurd y (by omega)) (fun _ => And.intro (pk_in (60 + i) 124 (by omega) e2) ⟨?_, I3⟩)))
  show w (60 + nI i).toNatClampNeg = gm_words m (nI i).toNatClampNeg
  rw [pk_cl (60 + i) e2, pk_cl i, h5.2.2.2.2.2.2.2.2.2.2 i y, h6.2.2.2.2.2.2.2.2.2.2 i y]
theorem iz_output (I : ir_R k c m b x d fs o nu w sv) (v1 : Int32) : wpX_output (fun r => wpY_output (fun r' => r' = r ∧ i_Rel (k + 3) (mk_S c m e b x d) (fs, o, nu, w, sv)) (fs, o, nu, w, sv) v1) (mk_S c m e b x d) v1 := by
  have I3 : ir_R (k + 3) c m b x d fs o nu w sv := ir_up I (by omega)
  obtain ⟨sz, op, num, st, A, N, s, z, stS, AS, h1, hC, hY, h4, h5, h6, h7, h8, h9, h10⟩ := I
  obtain ⟨p, S, R, I, O, W⟩ := A
  have a2 : gm_outputSize m = nI O.length := h5.2.2.2.2.2.1
  have b2 : w 5 = nI O.length := h6.2.2.2.2.2.1
  have as : sg_R (gm_outs m) 0 O := h5.2.2.2.2.2.2.2.2.2.1
  have bs : sg_R w 40 O := h6.2.2.2.2.2.2.2.2.2.1
  have o1 : O.length ≤ 20 := h4.2.2.2.2.1
  refine br_c (fun z0 => br_t z0 ⟨rfl, I3⟩) (fun z0 => ?_)
  obtain ⟨i, hi, rfl⟩ := nI_of z0
  refine pk_le O.length i (fun y => br_f z0 (pk_le O.length i (fun _ => ⟨rfl, I3⟩) (fun n => absurd y (by omega)) b2)) (fun y => ?_) a2
  have e2 : (40 : Int32) + nI i = nI (40 + i) := nI_add 40 i
  refine And.intro (pk_in i 20 (by omega)) (br_f z0 (pk_le O.length i (fun n => absurd y (by omega)) (fun _ => And.intro (pk_in (40 + i) 124 (by omega) e2) ⟨?_, I3⟩) b2))
  show w (40 + nI i).toNatClampNeg = gm_outs m (nI i).toNatClampNeg
  rw [pk_cl (40 + i) e2, pk_cl i]
  have g1 := sg_get as (i := O.length - 1 - i) (by omega)
  have g2 := sg_get bs (i := O.length - 1 - i) (by omega)
  rw [show O.length - 1 - (O.length - 1 - i) = i by omega] at g1 g2
  rw [Nat.zero_add] at g1
  rw [g1, g2]
theorem iz_held (I : ir_R k c m b x d fs o nu w sv) (v1 : Int32) : wpX_held (fun r => wpY_held (fun r' => r' = r ∧ i_Rel (k + 3) (mk_S c m e b x d) (fs, o, nu, w, sv)) (fs, o, nu, w, sv) v1) (mk_S c m e b x d) v1 := by
  have I3 : ir_R (k + 3) c m b x d fs o nu w sv := ir_up I (by omega)
  obtain ⟨sz, op, num, st, A, N, s, z, stS, AS, h1, hC, hY, h4, h5, h6, h7, h8, h9, h10⟩ := I
  refine br_c (fun z0 => br_t z0 ⟨?_, I3⟩) (fun z0 => br_c (fun z1 => br_f z0 (br_t z1 ⟨?_, I3⟩)) (fun z1 => br_f z0 (br_f z1 ⟨rfl, I3⟩)))
  · show w 4 = gm_inputSize m
    rw [h5.2.2.2.2.1, h6.2.2.2.2.1]
  · show w 3 = gm_returnSize m
    rw [h5.2.2.2.1, h6.2.2.2.1]
theorem iz_get (I : ir_R k c m b x d fs o nu w sv) : w 1 = gm_status m ∧ w 0 = gm_at m ∧ w 2 = gm_stackSize m ∧ w 5 = gm_outputSize m := by
  obtain ⟨sz, op, num, st, A, N, s, z, stS, AS, h1, hC, hY, h4, h5, h6, h7, h8, h9, h10⟩ := I
  exact ⟨h6.2.1.trans h5.1.symm, h6.1.trans h5.2.1.symm, h6.2.2.1.trans h5.2.2.1.symm, h6.2.2.2.2.2.1.trans h5.2.2.2.2.2.1.symm⟩
end IZ
end
section
/-! what is owed -/
theorem i_up {k : Nat} {u : SX} {v : SY} (h : i_Rel k u v) : i_Rel (k + 3) u v := ir_up h (by omega)
theorem i_vc0 : wpX_init (fun u => wpY_init (fun v => i_Rel 0 u v)) := by
  unfold wpX_init
  refine xs_reset (c := (0, fun _ => 0, fun _ => 0)) (m := (0, 0, 0, 0, 0, 0, 0, fun _ => 0, fun _ => 0, fun _ => 0, fun _ => 0, fun _ => 0)) (e := (fun _ => 0, fun _ => 0)) (b := (0, 0, fun _ => 0, fun _ => 0, fun _ => 0, fun _ => 0, fun _ => 0, fun _ => 0, fun _ => 0, fun _ => 0, fun _ => 0, fun _ => 0, fun _ => 0, fun _ => 0)) (x := (0, 0, 0, 0, 0, 0, fun _ => 0, fun _ => 0, fun _ => 0, fun _ => 0, fun _ => 0, fun _ => 0, fun _ => 0)) (d := (0, 0, 0, fun _ => 0, fun _ => 0, fun _ => 0, fun _ => 0, fun _ => 0, fun _ => 0)) (fun m' hm' _ => ?_)
  refine (⟨0, fun _ => 0, fun _ => 0, 0, am_0, 0, fun _ => 0, fun _ => 0, 0, am_0, ⟨by omega, fun i hi => absurd hi (Nat.not_lt_zero _)⟩, ⟨rfl, fun i hi => absurd hi (Nat.not_lt_zero _), fun i hi => absurd hi (Nat.not_lt_zero _)⟩, ⟨rfl, fun i hi => absurd hi (Nat.not_lt_zero _), fun i hi => absurd hi (Nat.not_lt_zero _)⟩, am_ok_0, hm', ry_0 (fun _ _ => rfl), Nat.le_refl _, ⟨0, 0, fun _ => 0, by omega, rfl, fun j _ => ⟨(show 0 < 40 by decide), rfl⟩, ⟨rfl, rfl, rfl, Nat.le_refl _, fun q => absurd q (Nat.lt_irrefl _)⟩, fun q => absurd q (Nat.lt_irrefl _)⟩, fun q => absurd q (Nat.lt_irrefl _), fun q => absurd rfl q⟩ : ir_R 0 (0, fun _ => 0, fun _ => 0) m' (0, 0, fun _ => 0, fun _ => 0, fun _ => 0, fun _ => 0, fun _ => 0, fun _ => 0, fun _ => 0, fun _ => 0, fun _ => 0, fun _ => 0, fun _ => 0, fun _ => 0) (0, 0, 0, 0, 0, 0, fun _ => 0, fun _ => 0, fun _ => 0, fun _ => 0, fun _ => 0, fun _ => 0, fun _ => 0) (0, 0, 0, fun _ => 0, fun _ => 0, fun _ => 0, fun _ => 0, fun _ => 0, fun _ => 0) 0 (fun _ => 0) (fun _ => 0) (fun _ => 0) (fun _ => 0))
theorem i_vc_emit {k : Nat} {u : SX} {v : SY} (I : i_Rel k u v) (hk : k + 3 ≤ 1536) (v1 : Int32) (v2 : Int32) : wpX_emit (fun r u' => wpY_emit (fun r' v' => r' = r ∧ i_Rel (k + 3) u' v') v v1 v2) u v1 v2 := iz_emit (c := pr_C u) (m := pr_M u) (e := pr_E u) (b := pr_B u) (x := pr_X u) (d := pr_D u) (fs := v.1) (o := v.2.1) (nu := v.2.2.1) (w := v.2.2.2.1) (sv := v.2.2.2.2) I v1 v2
theorem i_vc_drop {k : Nat} {u : SX} {v : SY} (I : i_Rel k u v) (hk : k + 3 ≤ 1536) : wpX_drop (fun r u' => wpY_drop (fun r' v' => r' = r ∧ i_Rel (k + 3) u' v') v) u := iz_drop (c := pr_C u) (m := pr_M u) (e := pr_E u) (b := pr_B u) (x := pr_X u) (d := pr_D u) (fs := v.1) (o := v.2.1) (nu := v.2.2.1) (w := v.2.2.2.1) (sv := v.2.2.2.2) I
theorem i_vc_boot {k : Nat} {u : SX} {v : SY} (I : i_Rel k u v) (hk : k + 3 ≤ 1536) : wpX_boot (fun r u' => wpY_boot (fun r' v' => r' = r ∧ i_Rel (k + 3) u' v') v) u := iz_boot (c := pr_C u) (m := pr_M u) (e := pr_E u) (b := pr_B u) (x := pr_X u) (d := pr_D u) (fs := v.1) (o := v.2.1) (nu := v.2.2.1) (w := v.2.2.2.1) (sv := v.2.2.2.2) hk I
theorem i_vc_feed {k : Nat} {u : SX} {v : SY} (I : i_Rel k u v) (hk : k + 3 ≤ 1536) (v1 : Int32) : wpX_feed (fun r u' => wpY_feed (fun r' v' => r' = r ∧ i_Rel (k + 3) u' v') v v1) u v1 := iz_feed (c := pr_C u) (m := pr_M u) (e := pr_E u) (b := pr_B u) (x := pr_X u) (d := pr_D u) (fs := v.1) (o := v.2.1) (nu := v.2.2.1) (w := v.2.2.2.1) (sv := v.2.2.2.2) I v1
theorem i_vc_step {k : Nat} {u : SX} {v : SY} (I : i_Rel k u v) (hk : k + 3 ≤ 1536) (v1 : Int32) : wpX_step (fun r u' => wpY_step (fun r' v' => r' = r ∧ i_Rel (k + 3) u' v') v v1) u v1 := iz_step (c := pr_C u) (m := pr_M u) (e := pr_E u) (b := pr_B u) (x := pr_X u) (d := pr_D u) (fs := v.1) (o := v.2.1) (nu := v.2.2.1) (w := v.2.2.2.1) (sv := v.2.2.2.2) I v1
theorem i_vc_save {k : Nat} {u : SX} {v : SY} (I : i_Rel k u v) (hk : k + 3 ≤ 1536) : wpX_save (fun r u' => wpY_save (fun r' v' => r' = r ∧ i_Rel (k + 3) u' v') v) u := iz_save (c := pr_C u) (m := pr_M u) (e := pr_E u) (b := pr_B u) (x := pr_X u) (d := pr_D u) (fs := v.1) (o := v.2.1) (nu := v.2.2.1) (w := v.2.2.2.1) (sv := v.2.2.2.2) hk I
theorem i_vc_cut {k : Nat} {u : SX} {v : SY} (I : i_Rel k u v) (hk : k + 3 ≤ 1536) (v1 : Int32) : wpX_cut (fun r u' => wpY_cut (fun r' v' => r' = r ∧ i_Rel (k + 3) u' v') v v1) u v1 := iz_cut (c := pr_C u) (m := pr_M u) (e := pr_E u) (b := pr_B u) (x := pr_X u) (d := pr_D u) (fs := v.1) (o := v.2.1) (nu := v.2.2.1) (w := v.2.2.2.1) (sv := v.2.2.2.2) hk I v1
theorem i_vc_crash {k : Nat} {u : SX} {v : SY} (I : i_Rel k u v) (hk : k + 3 ≤ 1536) : wpX_crash (fun r u' => wpY_crash (fun r' v' => r' = r ∧ i_Rel (k + 3) u' v') v) u := iz_crash (c := pr_C u) (m := pr_M u) (e := pr_E u) (b := pr_B u) (x := pr_X u) (d := pr_D u) (fs := v.1) (o := v.2.1) (nu := v.2.2.1) (w := v.2.2.2.1) (sv := v.2.2.2.2) hk I
theorem i_vc_status {k : Nat} {u : SX} {v : SY} (I : i_Rel k u v) (hk : k + 3 ≤ 1536) : wpX_status (fun r => wpY_status (fun r' => r' = r ∧ i_Rel (k + 3) u v) v) u := And.intro (iz_get (c := pr_C u) (m := pr_M u) (b := pr_B u) (x := pr_X u) (d := pr_D u) (fs := v.1) (o := v.2.1) (nu := v.2.2.1) (w := v.2.2.2.1) (sv := v.2.2.2.2) I).1 (ir_up I (by omega))
theorem i_vc_position {k : Nat} {u : SX} {v : SY} (I : i_Rel k u v) (hk : k + 3 ≤ 1536) : wpX_position (fun r => wpY_position (fun r' => r' = r ∧ i_Rel (k + 3) u v) v) u := And.intro (iz_get (c := pr_C u) (m := pr_M u) (b := pr_B u) (x := pr_X u) (d := pr_D u) (fs := v.1) (o := v.2.1) (nu := v.2.2.1) (w := v.2.2.2.1) (sv := v.2.2.2.2) I).2.1 (ir_up I (by omega))
theorem i_vc_depth {k : Nat} {u : SX} {v : SY} (I : i_Rel k u v) (hk : k + 3 ≤ 1536) : wpX_depth (fun r => wpY_depth (fun r' => r' = r ∧ i_Rel (k + 3) u v) v) u := And.intro (iz_get (c := pr_C u) (m := pr_M u) (b := pr_B u) (x := pr_X u) (d := pr_D u) (fs := v.1) (o := v.2.1) (nu := v.2.2.1) (w := v.2.2.2.1) (sv := v.2.2.2.2) I).2.2.1 (ir_up I (by omega))
theorem i_vc_top {k : Nat} {u : SX} {v : SY} (I : i_Rel k u v) (hk : k + 3 ≤ 1536) (v1 : Int32) : wpX_top (fun r => wpY_top (fun r' => r' = r ∧ i_Rel (k + 3) u v) v v1) u v1 := iz_top (c := pr_C u) (m := pr_M u) (e := pr_E u) (b := pr_B u) (x := pr_X u) (d := pr_D u) (fs := v.1) (o := v.2.1) (nu := v.2.2.1) (w := v.2.2.2.1) (sv := v.2.2.2.2) I v1
theorem i_vc_memory {k : Nat} {u : SX} {v : SY} (I : i_Rel k u v) (hk : k + 3 ≤ 1536) (v1 : Int32) : wpX_memory (fun r => wpY_memory (fun r' => r' = r ∧ i_Rel (k + 3) u v) v v1) u v1 := iz_memory (c := pr_C u) (m := pr_M u) (e := pr_E u) (b := pr_B u) (x := pr_X u) (d := pr_D u) (fs := v.1) (o := v.2.1) (nu := v.2.2.1) (w := v.2.2.2.1) (sv := v.2.2.2.2) I v1
theorem i_vc_outputs {k : Nat} {u : SX} {v : SY} (I : i_Rel k u v) (hk : k + 3 ≤ 1536) : wpX_outputs (fun r => wpY_outputs (fun r' => r' = r ∧ i_Rel (k + 3) u v) v) u := And.intro (iz_get (c := pr_C u) (m := pr_M u) (b := pr_B u) (x := pr_X u) (d := pr_D u) (fs := v.1) (o := v.2.1) (nu := v.2.2.1) (w := v.2.2.2.1) (sv := v.2.2.2.2) I).2.2.2 (ir_up I (by omega))
theorem i_vc_output {k : Nat} {u : SX} {v : SY} (I : i_Rel k u v) (hk : k + 3 ≤ 1536) (v1 : Int32) : wpX_output (fun r => wpY_output (fun r' => r' = r ∧ i_Rel (k + 3) u v) v v1) u v1 := iz_output (c := pr_C u) (m := pr_M u) (e := pr_E u) (b := pr_B u) (x := pr_X u) (d := pr_D u) (fs := v.1) (o := v.2.1) (nu := v.2.2.1) (w := v.2.2.2.1) (sv := v.2.2.2.2) I v1
theorem i_vc_held {k : Nat} {u : SX} {v : SY} (I : i_Rel k u v) (hk : k + 3 ≤ 1536) (v1 : Int32) : wpX_held (fun r => wpY_held (fun r' => r' = r ∧ i_Rel (k + 3) u v) v v1) u v1 := iz_held (c := pr_C u) (m := pr_M u) (e := pr_E u) (b := pr_B u) (x := pr_X u) (d := pr_D u) (fs := v.1) (o := v.2.1) (nu := v.2.2.1) (w := v.2.2.2.1) (sv := v.2.2.2.2) I v1
end
