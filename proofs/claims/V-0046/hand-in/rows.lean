section
/-! pure rows to paste: stores, nI and lN arithmetic, masks, shifts, narrowing, branches by naturals (pk_le, pk_lt, pk_eq), loops (lp1 .. lp16: the measure of the state; rp1 ..: recursion), negatives. Take what you need -/
theorem pk_us {f : Nat → Int32} {k : Nat} {x : Int32} : upd f k x k = x := if_pos rfl
theorem pk_un {f : Nat → Int32} {k j : Nat} {x : Int32} (h : j ≠ k) : upd f k x j = f j := if_neg h
theorem pk_uLs {f : Nat → Int64} {k : Nat} {x : Int64} : vp_updL f k x k = x := if_pos rfl
theorem pk_uLn {f : Nat → Int64} {k j : Nat} {x : Int64} (h : j ≠ k) : vp_updL f k x j = f j := if_neg h
theorem pk_sub {a b : Nat} (h : b ≤ a) : nI a - nI b = nI (a - b) := by
  obtain ⟨c, rfl⟩ : ∃ c, a = c + b := ⟨a - b, by omega⟩
  rw [← nI_add, Int32.add_sub_cancel, Nat.add_sub_cancel]
theorem pk_m1 (n : Nat) : nI (n + 1) + (-1) = nI n := by
  rw [← nI_1, Int32.add_assoc, show (1 : Int32) + (-1) = 0 from rfl, Int32.add_zero]
theorem pk_mul (a b : Nat) : nI a * nI b = nI (a * b) := (Int32.ofNat_mul a b).symm
theorem pk_div {a d : Nat} (ha : a < 2 ^ 31) (h0 : 0 < d) (hd : d < 2 ^ 31) : nI a / nI d = nI (a / d) := by
  apply Int32.toInt_inj.mp
  rw [lg_idiv_nonneg (by rw [nI_toInt ha]; omega) (by rw [nI_toInt hd]; omega), nI_toInt ha, nI_toInt hd, nI_toInt (Nat.lt_of_le_of_lt (Nat.div_le_self a d) ha)]
  first | rfl | exact (Int.natCast_ediv _ _).symm
theorem pk_rem {a d : Nat} (ha : a < 2 ^ 31) (h0 : 0 < d) (hd : d < 2 ^ 31) : nI a - nI a / nI d * nI d = nI (a % d) := by
  rw [pk_div ha h0 hd, pk_mul, pk_sub (Nat.div_mul_le_self a d)]
  exact congrArg nI (by have := Nat.div_add_mod' a d; omega)
theorem pk_sub_toInt {a b : Nat} (ha : a < 2 ^ 30) (hb : b < 2 ^ 30) : (nI a - nI b).toInt = (a : Int) - b := by
  rw [Int32.toInt_sub, nI_toInt (by omega), nI_toInt (by omega)]
  exact Int.bmod_eq_of_le (by omega) (by omega)
theorem pk_sneg {a b : Nat} (hb : b < 2 ^ 30) (h : a < b) : nI a - nI b < 0 := by
  rw [Int32.lt_iff_toInt_lt, pk_sub_toInt (by omega) hb, show (0 : Int32).toInt = 0 from by decide]
  omega
theorem pk_ix (x : Int32) {n : Nat} (hn : n < 2 ^ 31) : x < 0 ∨ nI n ≤ x ∨ ∃ j : Nat, j < n ∧ x = nI j := by
  by_cases h : x < 0
  · exact Or.inl h
  · obtain ⟨j, hj, rfl⟩ := nI_of h
    by_cases h2 : j < n
    · exact Or.inr (Or.inr ⟨j, h2, rfl⟩)
    · exact Or.inr (Or.inl (nI_le (by omega) hj))
theorem pk_le {x y : Int32} {A B : Prop} (a b : Nat) (f : a ≤ b → A) (g : b < a → B) (hx : x = nI a := by rfl) (hy : y = nI b := by rfl) (ha : a < 2 ^ 31 := by omega) (hb : b < 2 ^ 31 := by omega) : (x ≤ y → A) ∧ (¬ x ≤ y → B) := by
  subst hx hy
  rw [nI_leI ha hb]
  exact ⟨f, fun z => g (by omega)⟩
theorem pk_lt {x y : Int32} {A B : Prop} (a b : Nat) (f : a < b → A) (g : b ≤ a → B) (hx : x = nI a := by rfl) (hy : y = nI b := by rfl) (ha : a < 2 ^ 31 := by omega) (hb : b < 2 ^ 31 := by omega) : (x < y → A) ∧ (¬ x < y → B) := by
  subst hx hy
  rw [nI_ltI ha hb]
  exact ⟨f, fun z => g (by omega)⟩
theorem pk_eq {x y : Int32} {A B : Prop} (a b : Nat) (f : a = b → A) (g : a ≠ b → B) (hx : x = nI a := by rfl) (hy : y = nI b := by rfl) (ha : a < 2 ^ 31 := by omega) (hb : b < 2 ^ 31 := by omega) : (x = y → A) ∧ (¬ x = y → B) := by
  subst hx hy
  rw [nI_eq ha hb]
  exact ⟨f, g⟩
theorem pk_in {x : Int32} (n N : Nat) (h : n < N) (hx : x = nI n := by rfl) (hN : N < 2 ^ 31 := by omega) : vp_in x N := by
  subst hx
  exact vp_in_nI h hN
theorem pk_cl {x : Int32} (n : Nat) (hx : x = nI n := by rfl) (h : n < 2 ^ 31 := by omega) : x.toNatClampNeg = n := by
  subst hx
  exact nI_clamp h
theorem pk_tn {n : Nat} (h : n < 2 ^ 32) : (nI n).toBitVec.toNat = n := Nat.mod_eq_of_lt h
theorem pk_and (x : Int32) {m : Int32} (k : Nat) (hm : m.toBitVec.toNat = 2 ^ k - 1) : x &&& m = nI (x.toBitVec.toNat % 2 ^ k) := by
  apply Int32.toBitVec_inj.mp
  apply BitVec.eq_of_toNat_eq
  rw [Int32.toBitVec_and, BitVec.toNat_and, hm, Nat.and_two_pow_sub_one_eq_mod]
  show _ = (BitVec.ofNat 32 _).toNat
  rw [BitVec.toNat_ofNat]
  exact (Nat.mod_eq_of_lt (Nat.lt_of_le_of_lt (Nat.mod_le _ _) x.toBitVec.isLt)).symm
theorem pk_andN {n : Nat} (h : n < 2 ^ 32) {m : Int32} (k : Nat) (hm : m.toBitVec.toNat = 2 ^ k - 1) : nI n &&& m = nI (n % 2 ^ k) := by
  rw [pk_and _ k hm, pk_tn h]
theorem pk_andE (x : Int32) {m : Int32} (k : Nat) (hm : m.toBitVec.toNat = 2 ^ k - 1) : ∃ j : Nat, j < 2 ^ k ∧ x &&& m = nI j := ⟨_, Nat.mod_lt _ (Nat.two_pow_pos k), pk_and x k hm⟩
theorem pk_andIn (x : Int32) {m : Int32} (k : Nat) (hm : m.toBitVec.toNat = 2 ^ k - 1) (hk : k ≤ 30) : vp_in (x &&& m) (2 ^ k) := by
  obtain ⟨j, hj, e⟩ := pk_andE x k hm
  rw [e]
  exact vp_in_nI hj (Nat.lt_of_le_of_lt (Nat.pow_le_pow_right (by decide) hk) (by decide))
theorem pk_shl (a s : Int32) (k : Nat) (hs : (s.toBitVec.smod 32).toNat = k) : (a <<< s).toBitVec.toNat = a.toBitVec.toNat * 2 ^ k % 2 ^ 32 := by
  show (a.toBitVec <<< (s.toBitVec.smod 32).toNat).toNat = _
  rw [hs, BitVec.toNat_shiftLeft, Nat.shiftLeft_eq]
theorem pk_shlN {n : Nat} (s : Int32) (k : Nat) (hs : (s.toBitVec.smod 32).toNat = k) (h : n * 2 ^ k < 2 ^ 32) : nI n <<< s = nI (n * 2 ^ k) := by
  apply Int32.toBitVec_inj.mp
  apply BitVec.eq_of_toNat_eq
  have hn : n < 2 ^ 32 := Nat.lt_of_le_of_lt (Nat.le_mul_of_pos_right n (Nat.two_pow_pos k)) h
  rw [pk_shl _ _ k hs, pk_tn hn, pk_tn h, Nat.mod_eq_of_lt h]
theorem pk_shr (a s : Int32) (k : Nat) (hs : (s.toBitVec.smod 32).toNat = k) : (a >>> s).toInt = a.toInt >>> k := by
  show (a.toBitVec.sshiftRight (s.toBitVec.smod 32).toNat).toInt = _
  rw [hs, BitVec.toInt_sshiftRight]
  rfl
theorem pk_shrN {n : Nat} (h : n < 2 ^ 31) (s : Int32) (k : Nat) (hs : (s.toBitVec.smod 32).toNat = k) : nI n >>> s = nI (n / 2 ^ k) := by
  apply Int32.toInt_inj.mp
  have h2 : n / 2 ^ k ≤ n := Nat.div_le_self _ _
  rw [pk_shr _ _ k hs, nI_toInt h, nI_toInt (by omega), Int.shiftRight_eq_div_pow]
  rfl
theorem pk_ushr (x s : Int32) (k : Nat) (hs : ((s.toUInt32 &&& Int32.toUInt32 31).toBitVec % 32).toNat = k) : (x.toUInt32 >>> (s.toUInt32 &&& Int32.toUInt32 31)).toInt32.toBitVec.toNat = x.toBitVec.toNat / 2 ^ k := by
  have e : (x.toUInt32 >>> (s.toUInt32 &&& Int32.toUInt32 31)).toInt32.toBitVec = x.toBitVec >>> k := by
    rw [← hs]
    exact UInt32.toBitVec_shiftRight _ _
  rw [e, BitVec.toNat_ushiftRight, Nat.shiftRight_eq_div_pow]
theorem pk_ushrN {n : Nat} (hn : n < 2 ^ 32) (s : Int32) (k : Nat) (hs : ((s.toUInt32 &&& Int32.toUInt32 31).toBitVec % 32).toNat = k) : ((nI n).toUInt32 >>> (s.toUInt32 &&& Int32.toUInt32 31)).toInt32 = nI (n / 2 ^ k) := by
  apply Int32.toBitVec_inj.mp
  apply BitVec.eq_of_toNat_eq
  rw [pk_ushr _ s k hs, pk_tn hn, pk_tn (Nat.lt_of_le_of_lt (Nat.div_le_self _ _) hn)]
theorem pk_nb (z : Int32) : narrow .byte (.int z.toInt8.toInt32) = .int z.toInt8.toInt32 := congrArg Value.int (by simp)
theorem pk_ns (z : Int32) : narrow .short (.int z.toInt16.toInt32) = .int z.toInt16.toInt32 := congrArg Value.int (by simp)
theorem pk_fb (r : Int32) : fits .byte (.int r.toInt8.toInt32) = true := by
  have ⟨a, b⟩ := lg_i2b_range r
  have h1 : (-128 : Int32).toInt = -128 := by decide
  have h2 : (127 : Int32).toInt = 127 := by decide
  simp only [fits, Bool.and_eq_true, decide_eq_true_eq, Int32.le_iff_toInt_le, h1, h2]
  omega
theorem pk_fs (r : Int32) : fits .short (.int r.toInt16.toInt32) = true := by
  have ⟨a, b⟩ := lg_i2s_range r
  have h1 : (-32768 : Int32).toInt = -32768 := by decide
  have h2 : (32767 : Int32).toInt = 32767 := by decide
  simp only [fits, Bool.and_eq_true, decide_eq_true_eq, Int32.le_iff_toInt_le, h1, h2]
  omega
theorem pk_charN {q : Nat} (hq : q < 65536) : narrow .char (.int (nI q)) = .int (nI q) ∧ fits .char (.int (nI q)) = true := by
  constructor
  · have e : (nI q).toUInt32.toUInt16.toUInt32.toInt32 = nI q := by
      apply Int32.toBitVec_inj.mp
      apply BitVec.eq_of_toNat_eq
      show (nI q).toUInt32.toUInt16.toUInt32.toNat = q % 2 ^ 32
      rw [UInt16.toNat_toUInt32, UInt32.toNat_toUInt16, show (nI q).toUInt32.toNat = q % 2 ^ 32 from rfl]
      omega
    exact congrArg Value.int e
  · have a : (0 : Int32) ≤ nI q := nI_pos' (by omega)
    have b : nI q ≤ 65535 := nI_le (b := 65535) (by omega) (by decide)
    show (decide ((0 : Int32) ≤ nI q) && decide (nI q ≤ 65535)) = true
    rw [decide_eq_true a, decide_eq_true b]
    rfl
theorem pk_char (x : Int32) : (x.toUInt32 % 65536).toInt32 = nI (x.toBitVec.toNat % 65536) := by
  apply Int32.toBitVec_inj.mp
  apply BitVec.eq_of_toNat_eq
  rw [pk_tn (by omega)]
  show (x.toUInt32 % 65536).toNat = _
  rw [UInt32.toNat_mod]
  rfl
theorem pk_nc (x : Int32) : narrow .char (.int (x.toUInt32 % 65536).toInt32) = .int (x.toUInt32 % 65536).toInt32 := by
  rw [pk_char]
  exact (pk_charN (Nat.mod_lt _ (by decide))).1
theorem pk_fc (x : Int32) : fits .char (.int (x.toUInt32 % 65536).toInt32) = true := by
  rw [pk_char]
  exact (pk_charN (Nat.mod_lt _ (by decide))).2
theorem pk_vb (z : Int32) : vp_nar .byte z.toInt8.toInt32 = z.toInt8.toInt32 := by rw [vp_nar_byte]; simp
theorem pk_vs (z : Int32) : vp_nar .short z.toInt16.toInt32 = z.toInt16.toInt32 := by rw [vp_nar_short]; simp
theorem pk_vc (z : Int32) : vp_nar .char (z.toUInt32 % 65536).toInt32 = (z.toUInt32 % 65536).toInt32 := Value.int.inj (pk_nc z)
theorem pk_lT {n : Nat} (h : n < 2 ^ 63) : (lN n).toInt = (n : Int) := lg_ofNat_toInt h
theorem pk_lLT {a b : Nat} (ha : a < 2 ^ 63) (hb : b < 2 ^ 63) : lN a < lN b ↔ a < b := by
  rw [Int64.lt_iff_toInt_lt, pk_lT ha, pk_lT hb]; omega
theorem pk_lLE {a b : Nat} (ha : a < 2 ^ 63) (hb : b < 2 ^ 63) : lN a ≤ lN b ↔ a ≤ b := by
  rw [Int64.le_iff_toInt_le, pk_lT ha, pk_lT hb]; omega
theorem pk_lEQ {a b : Nat} (ha : a < 2 ^ 63) (hb : b < 2 ^ 63) : lN a = lN b ↔ a = b := by
  rw [← Int64.toInt_inj, pk_lT ha, pk_lT hb]; omega
theorem pk_lOf {x : Int64} (h : ¬ x < 0) : ∃ k : Nat, k < 2 ^ 63 ∧ x = lN k := by
  rw [Int64.lt_iff_toInt_lt] at h
  have h0 : (0 : Int64).toInt = 0 := by decide
  have hx := Int64.toInt_lt x
  refine ⟨x.toInt.toNat, by omega, Int64.toInt_inj.mp ?_⟩
  rw [pk_lT (by omega)]
  omega
theorem pk_lDiv {a b : Nat} (ha : a < 2 ^ 63) (h0 : 0 < b) (hb : b < 2 ^ 63) : lN a / lN b = lN (a / b) := by
  apply Int64.toInt_inj.mp
  rw [lg_ldiv_nonneg (by rw [pk_lT ha]; omega) (by rw [pk_lT hb]; omega), pk_lT ha, pk_lT hb, pk_lT (Nat.lt_of_le_of_lt (Nat.div_le_self a b) ha)]
  rfl
theorem pk_lRem {a b : Nat} (ha : a < 2 ^ 63) (h0 : 0 < b) (hb : b < 2 ^ 63) : lN a - lN a / lN b * lN b = lN (a % b) := by
  rw [pk_lDiv ha h0 hb, lN_mul, lN_sub (Nat.div_mul_le_self a b)]
  exact congrArg lN (by have := Nat.div_add_mod' a b; omega)
theorem pk_loop {σ : Type} (W : Nat → Nat → σ → Prop) (I : Nat → σ → Prop) (e i0 : Nat) (s : σ) (hi : i0 ≤ e) (h0 : I i0 s) (hx : ∀ n s, I e s → W (n + 1) e s)
    (hs : ∀ n i s, i < e → I i s → (∀ s', I (i + 1) s' → W n (i + 1) s') → W (n + 1) i s) : ∃ n, W n i0 s :=
  ⟨e + 1, loop_i W I e hx hs (e + 1) i0 s hi (by omega) h0⟩
theorem pk_loopD {σ : Type} (W : Nat → Nat → σ → Prop) (I : Nat → σ → Prop) (hx : ∀ n s, I 0 s → W (n + 1) 0 s)
    (hs : ∀ n i s, I (i + 1) s → (∀ s', I i s' → W n i s') → W (n + 1) (i + 1) s) : ∀ (e : Nat) (s : σ), I e s → W (e + 1) e s := by
  intro e
  induction e with
  | zero => exact fun s h => hx 0 s h
  | succ e ih => exact fun s h => hs (e + 1) e s h (fun s' h' => ih s' h')
theorem lp1 {A1 : Type} (W : Nat → A1 → Prop) (I : A1 → Prop) (μ : A1 → Nat) (hs : ∀ (n : Nat) (a1 : A1), I a1 → (∀ (b1 : A1), I b1 → μ b1 < μ a1 → W n b1) → W (n + 1) a1) (a1 : A1) (h : I a1) : ∃ n, W n a1 :=
  loop_m (σ := A1) (fun n s => W n s) (fun s => I s) (fun s => μ s) (fun n s hI hk => hs n s hI (fun b1 h9 hm => hk b1 h9 hm)) a1 h
theorem lp2 {A1 A2 : Type} (W : Nat → A1 → A2 → Prop) (I : A1 → A2 → Prop) (μ : A1 → A2 → Nat) (hs : ∀ (n : Nat) (a1 : A1) (a2 : A2), I a1 a2 → (∀ (b1 : A1) (b2 : A2), I b1 b2 → μ b1 b2 < μ a1 a2 → W n b1 b2) → W (n + 1) a1 a2) (a1 : A1) (a2 : A2) (h : I a1 a2) : ∃ n, W n a1 a2 :=
  loop_m (σ := A1 × A2) (fun n s => W n s.1 s.2) (fun s => I s.1 s.2) (fun s => μ s.1 s.2) (fun n s hI hk => hs n s.1 s.2 hI (fun b1 b2 h9 hm => hk (b1, b2) h9 hm)) (a1, a2) h
theorem lp3 {A1 A2 A3 : Type} (W : Nat → A1 → A2 → A3 → Prop) (I : A1 → A2 → A3 → Prop) (μ : A1 → A2 → A3 → Nat) (hs : ∀ (n : Nat) (a1 : A1) (a2 : A2) (a3 : A3), I a1 a2 a3 → (∀ (b1 : A1) (b2 : A2) (b3 : A3), I b1 b2 b3 → μ b1 b2 b3 < μ a1 a2 a3 → W n b1 b2 b3) → W (n + 1) a1 a2 a3) (a1 : A1) (a2 : A2) (a3 : A3) (h : I a1 a2 a3) : ∃ n, W n a1 a2 a3 :=
  loop_m (σ := A1 × A2 × A3) (fun n s => W n s.1 s.2.1 s.2.2) (fun s => I s.1 s.2.1 s.2.2) (fun s => μ s.1 s.2.1 s.2.2) (fun n s hI hk => hs n s.1 s.2.1 s.2.2 hI (fun b1 b2 b3 h9 hm => hk (b1, b2, b3) h9 hm)) (a1, a2, a3) h
theorem lp4 {A1 A2 A3 A4 : Type} (W : Nat → A1 → A2 → A3 → A4 → Prop) (I : A1 → A2 → A3 → A4 → Prop) (μ : A1 → A2 → A3 → A4 → Nat) (hs : ∀ (n : Nat) (a1 : A1) (a2 : A2) (a3 : A3) (a4 : A4), I a1 a2 a3 a4 → (∀ (b1 : A1) (b2 : A2) (b3 : A3) (b4 : A4), I b1 b2 b3 b4 → μ b1 b2 b3 b4 < μ a1 a2 a3 a4 → W n b1 b2 b3 b4) → W (n + 1) a1 a2 a3 a4) (a1 : A1) (a2 : A2) (a3 : A3) (a4 : A4) (h : I a1 a2 a3 a4) : ∃ n, W n a1 a2 a3 a4 :=
  loop_m (σ := A1 × A2 × A3 × A4) (fun n s => W n s.1 s.2.1 s.2.2.1 s.2.2.2) (fun s => I s.1 s.2.1 s.2.2.1 s.2.2.2) (fun s => μ s.1 s.2.1 s.2.2.1 s.2.2.2) (fun n s hI hk => hs n s.1 s.2.1 s.2.2.1 s.2.2.2 hI (fun b1 b2 b3 b4 h9 hm => hk (b1, b2, b3, b4) h9 hm)) (a1, a2, a3, a4) h
theorem lp5 {A1 A2 A3 A4 A5 : Type} (W : Nat → A1 → A2 → A3 → A4 → A5 → Prop) (I : A1 → A2 → A3 → A4 → A5 → Prop) (μ : A1 → A2 → A3 → A4 → A5 → Nat) (hs : ∀ (n : Nat) (a1 : A1) (a2 : A2) (a3 : A3) (a4 : A4) (a5 : A5), I a1 a2 a3 a4 a5 → (∀ (b1 : A1) (b2 : A2) (b3 : A3) (b4 : A4) (b5 : A5), I b1 b2 b3 b4 b5 → μ b1 b2 b3 b4 b5 < μ a1 a2 a3 a4 a5 → W n b1 b2 b3 b4 b5) → W (n + 1) a1 a2 a3 a4 a5) (a1 : A1) (a2 : A2) (a3 : A3) (a4 : A4) (a5 : A5) (h : I a1 a2 a3 a4 a5) : ∃ n, W n a1 a2 a3 a4 a5 :=
  loop_m (σ := A1 × A2 × A3 × A4 × A5) (fun n s => W n s.1 s.2.1 s.2.2.1 s.2.2.2.1 s.2.2.2.2) (fun s => I s.1 s.2.1 s.2.2.1 s.2.2.2.1 s.2.2.2.2) (fun s => μ s.1 s.2.1 s.2.2.1 s.2.2.2.1 s.2.2.2.2) (fun n s hI hk => hs n s.1 s.2.1 s.2.2.1 s.2.2.2.1 s.2.2.2.2 hI (fun b1 b2 b3 b4 b5 h9 hm => hk (b1, b2, b3, b4, b5) h9 hm)) (a1, a2, a3, a4, a5) h
theorem lp6 {A1 A2 A3 A4 A5 A6 : Type} (W : Nat → A1 → A2 → A3 → A4 → A5 → A6 → Prop) (I : A1 → A2 → A3 → A4 → A5 → A6 → Prop) (μ : A1 → A2 → A3 → A4 → A5 → A6 → Nat) (hs : ∀ (n : Nat) (a1 : A1) (a2 : A2) (a3 : A3) (a4 : A4) (a5 : A5) (a6 : A6), I a1 a2 a3 a4 a5 a6 → (∀ (b1 : A1) (b2 : A2) (b3 : A3) (b4 : A4) (b5 : A5) (b6 : A6), I b1 b2 b3 b4 b5 b6 → μ b1 b2 b3 b4 b5 b6 < μ a1 a2 a3 a4 a5 a6 → W n b1 b2 b3 b4 b5 b6) → W (n + 1) a1 a2 a3 a4 a5 a6) (a1 : A1) (a2 : A2) (a3 : A3) (a4 : A4) (a5 : A5) (a6 : A6) (h : I a1 a2 a3 a4 a5 a6) : ∃ n, W n a1 a2 a3 a4 a5 a6 :=
  loop_m (σ := A1 × A2 × A3 × A4 × A5 × A6) (fun n s => W n s.1 s.2.1 s.2.2.1 s.2.2.2.1 s.2.2.2.2.1 s.2.2.2.2.2) (fun s => I s.1 s.2.1 s.2.2.1 s.2.2.2.1 s.2.2.2.2.1 s.2.2.2.2.2) (fun s => μ s.1 s.2.1 s.2.2.1 s.2.2.2.1 s.2.2.2.2.1 s.2.2.2.2.2) (fun n s hI hk => hs n s.1 s.2.1 s.2.2.1 s.2.2.2.1 s.2.2.2.2.1 s.2.2.2.2.2 hI (fun b1 b2 b3 b4 b5 b6 h9 hm => hk (b1, b2, b3, b4, b5, b6) h9 hm)) (a1, a2, a3, a4, a5, a6) h
theorem lp7 {A1 A2 A3 A4 A5 A6 A7 : Type} (W : Nat → A1 → A2 → A3 → A4 → A5 → A6 → A7 → Prop) (I : A1 → A2 → A3 → A4 → A5 → A6 → A7 → Prop) (μ : A1 → A2 → A3 → A4 → A5 → A6 → A7 → Nat) (hs : ∀ (n : Nat) (a1 : A1) (a2 : A2) (a3 : A3) (a4 : A4) (a5 : A5) (a6 : A6) (a7 : A7), I a1 a2 a3 a4 a5 a6 a7 → (∀ (b1 : A1) (b2 : A2) (b3 : A3) (b4 : A4) (b5 : A5) (b6 : A6) (b7 : A7), I b1 b2 b3 b4 b5 b6 b7 → μ b1 b2 b3 b4 b5 b6 b7 < μ a1 a2 a3 a4 a5 a6 a7 → W n b1 b2 b3 b4 b5 b6 b7) → W (n + 1) a1 a2 a3 a4 a5 a6 a7) (a1 : A1) (a2 : A2) (a3 : A3) (a4 : A4) (a5 : A5) (a6 : A6) (a7 : A7) (h : I a1 a2 a3 a4 a5 a6 a7) : ∃ n, W n a1 a2 a3 a4 a5 a6 a7 :=
  loop_m (σ := A1 × A2 × A3 × A4 × A5 × A6 × A7) (fun n s => W n s.1 s.2.1 s.2.2.1 s.2.2.2.1 s.2.2.2.2.1 s.2.2.2.2.2.1 s.2.2.2.2.2.2) (fun s => I s.1 s.2.1 s.2.2.1 s.2.2.2.1 s.2.2.2.2.1 s.2.2.2.2.2.1 s.2.2.2.2.2.2) (fun s => μ s.1 s.2.1 s.2.2.1 s.2.2.2.1 s.2.2.2.2.1 s.2.2.2.2.2.1 s.2.2.2.2.2.2) (fun n s hI hk => hs n s.1 s.2.1 s.2.2.1 s.2.2.2.1 s.2.2.2.2.1 s.2.2.2.2.2.1 s.2.2.2.2.2.2 hI (fun b1 b2 b3 b4 b5 b6 b7 h9 hm => hk (b1, b2, b3, b4, b5, b6, b7) h9 hm)) (a1, a2, a3, a4, a5, a6, a7) h
theorem lp8 {A1 A2 A3 A4 A5 A6 A7 A8 : Type} (W : Nat → A1 → A2 → A3 → A4 → A5 → A6 → A7 → A8 → Prop) (I : A1 → A2 → A3 → A4 → A5 → A6 → A7 → A8 → Prop) (μ : A1 → A2 → A3 → A4 → A5 → A6 → A7 → A8 → Nat) (hs : ∀ (n : Nat) (a1 : A1) (a2 : A2) (a3 : A3) (a4 : A4) (a5 : A5) (a6 : A6) (a7 : A7) (a8 : A8), I a1 a2 a3 a4 a5 a6 a7 a8 → (∀ (b1 : A1) (b2 : A2) (b3 : A3) (b4 : A4) (b5 : A5) (b6 : A6) (b7 : A7) (b8 : A8), I b1 b2 b3 b4 b5 b6 b7 b8 → μ b1 b2 b3 b4 b5 b6 b7 b8 < μ a1 a2 a3 a4 a5 a6 a7 a8 → W n b1 b2 b3 b4 b5 b6 b7 b8) → W (n + 1) a1 a2 a3 a4 a5 a6 a7 a8) (a1 : A1) (a2 : A2) (a3 : A3) (a4 : A4) (a5 : A5) (a6 : A6) (a7 : A7) (a8 : A8) (h : I a1 a2 a3 a4 a5 a6 a7 a8) : ∃ n, W n a1 a2 a3 a4 a5 a6 a7 a8 :=
  loop_m (σ := A1 × A2 × A3 × A4 × A5 × A6 × A7 × A8) (fun n s => W n s.1 s.2.1 s.2.2.1 s.2.2.2.1 s.2.2.2.2.1 s.2.2.2.2.2.1 s.2.2.2.2.2.2.1 s.2.2.2.2.2.2.2) (fun s => I s.1 s.2.1 s.2.2.1 s.2.2.2.1 s.2.2.2.2.1 s.2.2.2.2.2.1 s.2.2.2.2.2.2.1 s.2.2.2.2.2.2.2) (fun s => μ s.1 s.2.1 s.2.2.1 s.2.2.2.1 s.2.2.2.2.1 s.2.2.2.2.2.1 s.2.2.2.2.2.2.1 s.2.2.2.2.2.2.2) (fun n s hI hk => hs n s.1 s.2.1 s.2.2.1 s.2.2.2.1 s.2.2.2.2.1 s.2.2.2.2.2.1 s.2.2.2.2.2.2.1 s.2.2.2.2.2.2.2 hI (fun b1 b2 b3 b4 b5 b6 b7 b8 h9 hm => hk (b1, b2, b3, b4, b5, b6, b7, b8) h9 hm)) (a1, a2, a3, a4, a5, a6, a7, a8) h
theorem lp9 {A1 A2 A3 A4 A5 A6 A7 A8 A9 : Type} (W : Nat → A1 → A2 → A3 → A4 → A5 → A6 → A7 → A8 → A9 → Prop) (I : A1 → A2 → A3 → A4 → A5 → A6 → A7 → A8 → A9 → Prop) (μ : A1 → A2 → A3 → A4 → A5 → A6 → A7 → A8 → A9 → Nat) (hs : ∀ (n : Nat) (a1 : A1) (a2 : A2) (a3 : A3) (a4 : A4) (a5 : A5) (a6 : A6) (a7 : A7) (a8 : A8) (a9 : A9), I a1 a2 a3 a4 a5 a6 a7 a8 a9 → (∀ (b1 : A1) (b2 : A2) (b3 : A3) (b4 : A4) (b5 : A5) (b6 : A6) (b7 : A7) (b8 : A8) (b9 : A9), I b1 b2 b3 b4 b5 b6 b7 b8 b9 → μ b1 b2 b3 b4 b5 b6 b7 b8 b9 < μ a1 a2 a3 a4 a5 a6 a7 a8 a9 → W n b1 b2 b3 b4 b5 b6 b7 b8 b9) → W (n + 1) a1 a2 a3 a4 a5 a6 a7 a8 a9) (a1 : A1) (a2 : A2) (a3 : A3) (a4 : A4) (a5 : A5) (a6 : A6) (a7 : A7) (a8 : A8) (a9 : A9) (h : I a1 a2 a3 a4 a5 a6 a7 a8 a9) : ∃ n, W n a1 a2 a3 a4 a5 a6 a7 a8 a9 :=
  loop_m (σ := A1 × A2 × A3 × A4 × A5 × A6 × A7 × A8 × A9) (fun n s => W n s.1 s.2.1 s.2.2.1 s.2.2.2.1 s.2.2.2.2.1 s.2.2.2.2.2.1 s.2.2.2.2.2.2.1 s.2.2.2.2.2.2.2.1 s.2.2.2.2.2.2.2.2) (fun s => I s.1 s.2.1 s.2.2.1 s.2.2.2.1 s.2.2.2.2.1 s.2.2.2.2.2.1 s.2.2.2.2.2.2.1 s.2.2.2.2.2.2.2.1 s.2.2.2.2.2.2.2.2) (fun s => μ s.1 s.2.1 s.2.2.1 s.2.2.2.1 s.2.2.2.2.1 s.2.2.2.2.2.1 s.2.2.2.2.2.2.1 s.2.2.2.2.2.2.2.1 s.2.2.2.2.2.2.2.2) (fun n s hI hk => hs n s.1 s.2.1 s.2.2.1 s.2.2.2.1 s.2.2.2.2.1 s.2.2.2.2.2.1 s.2.2.2.2.2.2.1 s.2.2.2.2.2.2.2.1 s.2.2.2.2.2.2.2.2 hI (fun b1 b2 b3 b4 b5 b6 b7 b8 b9 h9 hm => hk (b1, b2, b3, b4, b5, b6, b7, b8, b9) h9 hm)) (a1, a2, a3, a4, a5, a6, a7, a8, a9) h
theorem lp10 {A1 A2 A3 A4 A5 A6 A7 A8 A9 A10 : Type} (W : Nat → A1 → A2 → A3 → A4 → A5 → A6 → A7 → A8 → A9 → A10 → Prop) (I : A1 → A2 → A3 → A4 → A5 → A6 → A7 → A8 → A9 → A10 → Prop) (μ : A1 → A2 → A3 → A4 → A5 → A6 → A7 → A8 → A9 → A10 → Nat) (hs : ∀ (n : Nat) (a1 : A1) (a2 : A2) (a3 : A3) (a4 : A4) (a5 : A5) (a6 : A6) (a7 : A7) (a8 : A8) (a9 : A9) (a10 : A10), I a1 a2 a3 a4 a5 a6 a7 a8 a9 a10 → (∀ (b1 : A1) (b2 : A2) (b3 : A3) (b4 : A4) (b5 : A5) (b6 : A6) (b7 : A7) (b8 : A8) (b9 : A9) (b10 : A10), I b1 b2 b3 b4 b5 b6 b7 b8 b9 b10 → μ b1 b2 b3 b4 b5 b6 b7 b8 b9 b10 < μ a1 a2 a3 a4 a5 a6 a7 a8 a9 a10 → W n b1 b2 b3 b4 b5 b6 b7 b8 b9 b10) → W (n + 1) a1 a2 a3 a4 a5 a6 a7 a8 a9 a10) (a1 : A1) (a2 : A2) (a3 : A3) (a4 : A4) (a5 : A5) (a6 : A6) (a7 : A7) (a8 : A8) (a9 : A9) (a10 : A10) (h : I a1 a2 a3 a4 a5 a6 a7 a8 a9 a10) : ∃ n, W n a1 a2 a3 a4 a5 a6 a7 a8 a9 a10 :=
  loop_m (σ := A1 × A2 × A3 × A4 × A5 × A6 × A7 × A8 × A9 × A10) (fun n s => W n s.1 s.2.1 s.2.2.1 s.2.2.2.1 s.2.2.2.2.1 s.2.2.2.2.2.1 s.2.2.2.2.2.2.1 s.2.2.2.2.2.2.2.1 s.2.2.2.2.2.2.2.2.1 s.2.2.2.2.2.2.2.2.2) (fun s => I s.1 s.2.1 s.2.2.1 s.2.2.2.1 s.2.2.2.2.1 s.2.2.2.2.2.1 s.2.2.2.2.2.2.1 s.2.2.2.2.2.2.2.1 s.2.2.2.2.2.2.2.2.1 s.2.2.2.2.2.2.2.2.2) (fun s => μ s.1 s.2.1 s.2.2.1 s.2.2.2.1 s.2.2.2.2.1 s.2.2.2.2.2.1 s.2.2.2.2.2.2.1 s.2.2.2.2.2.2.2.1 s.2.2.2.2.2.2.2.2.1 s.2.2.2.2.2.2.2.2.2) (fun n s hI hk => hs n s.1 s.2.1 s.2.2.1 s.2.2.2.1 s.2.2.2.2.1 s.2.2.2.2.2.1 s.2.2.2.2.2.2.1 s.2.2.2.2.2.2.2.1 s.2.2.2.2.2.2.2.2.1 s.2.2.2.2.2.2.2.2.2 hI (fun b1 b2 b3 b4 b5 b6 b7 b8 b9 b10 h9 hm => hk (b1, b2, b3, b4, b5, b6, b7, b8, b9, b10) h9 hm)) (a1, a2, a3, a4, a5, a6, a7, a8, a9, a10) h
theorem lp11 {A1 A2 A3 A4 A5 A6 A7 A8 A9 A10 A11 : Type} (W : Nat → A1 → A2 → A3 → A4 → A5 → A6 → A7 → A8 → A9 → A10 → A11 → Prop) (I : A1 → A2 → A3 → A4 → A5 → A6 → A7 → A8 → A9 → A10 → A11 → Prop) (μ : A1 → A2 → A3 → A4 → A5 → A6 → A7 → A8 → A9 → A10 → A11 → Nat) (hs : ∀ (n : Nat) (a1 : A1) (a2 : A2) (a3 : A3) (a4 : A4) (a5 : A5) (a6 : A6) (a7 : A7) (a8 : A8) (a9 : A9) (a10 : A10) (a11 : A11), I a1 a2 a3 a4 a5 a6 a7 a8 a9 a10 a11 → (∀ (b1 : A1) (b2 : A2) (b3 : A3) (b4 : A4) (b5 : A5) (b6 : A6) (b7 : A7) (b8 : A8) (b9 : A9) (b10 : A10) (b11 : A11), I b1 b2 b3 b4 b5 b6 b7 b8 b9 b10 b11 → μ b1 b2 b3 b4 b5 b6 b7 b8 b9 b10 b11 < μ a1 a2 a3 a4 a5 a6 a7 a8 a9 a10 a11 → W n b1 b2 b3 b4 b5 b6 b7 b8 b9 b10 b11) → W (n + 1) a1 a2 a3 a4 a5 a6 a7 a8 a9 a10 a11) (a1 : A1) (a2 : A2) (a3 : A3) (a4 : A4) (a5 : A5) (a6 : A6) (a7 : A7) (a8 : A8) (a9 : A9) (a10 : A10) (a11 : A11) (h : I a1 a2 a3 a4 a5 a6 a7 a8 a9 a10 a11) : ∃ n, W n a1 a2 a3 a4 a5 a6 a7 a8 a9 a10 a11 :=
  loop_m (σ := A1 × A2 × A3 × A4 × A5 × A6 × A7 × A8 × A9 × A10 × A11) (fun n s => W n s.1 s.2.1 s.2.2.1 s.2.2.2.1 s.2.2.2.2.1 s.2.2.2.2.2.1 s.2.2.2.2.2.2.1 s.2.2.2.2.2.2.2.1 s.2.2.2.2.2.2.2.2.1 s.2.2.2.2.2.2.2.2.2.1 s.2.2.2.2.2.2.2.2.2.2) (fun s => I s.1 s.2.1 s.2.2.1 s.2.2.2.1 s.2.2.2.2.1 s.2.2.2.2.2.1 s.2.2.2.2.2.2.1 s.2.2.2.2.2.2.2.1 s.2.2.2.2.2.2.2.2.1 s.2.2.2.2.2.2.2.2.2.1 s.2.2.2.2.2.2.2.2.2.2) (fun s => μ s.1 s.2.1 s.2.2.1 s.2.2.2.1 s.2.2.2.2.1 s.2.2.2.2.2.1 s.2.2.2.2.2.2.1 s.2.2.2.2.2.2.2.1 s.2.2.2.2.2.2.2.2.1 s.2.2.2.2.2.2.2.2.2.1 s.2.2.2.2.2.2.2.2.2.2) (fun n s hI hk => hs n s.1 s.2.1 s.2.2.1 s.2.2.2.1 s.2.2.2.2.1 s.2.2.2.2.2.1 s.2.2.2.2.2.2.1 s.2.2.2.2.2.2.2.1 s.2.2.2.2.2.2.2.2.1 s.2.2.2.2.2.2.2.2.2.1 s.2.2.2.2.2.2.2.2.2.2 hI (fun b1 b2 b3 b4 b5 b6 b7 b8 b9 b10 b11 h9 hm => hk (b1, b2, b3, b4, b5, b6, b7, b8, b9, b10, b11) h9 hm)) (a1, a2, a3, a4, a5, a6, a7, a8, a9, a10, a11) h
theorem lp12 {A1 A2 A3 A4 A5 A6 A7 A8 A9 A10 A11 A12 : Type} (W : Nat → A1 → A2 → A3 → A4 → A5 → A6 → A7 → A8 → A9 → A10 → A11 → A12 → Prop) (I : A1 → A2 → A3 → A4 → A5 → A6 → A7 → A8 → A9 → A10 → A11 → A12 → Prop) (μ : A1 → A2 → A3 → A4 → A5 → A6 → A7 → A8 → A9 → A10 → A11 → A12 → Nat) (hs : ∀ (n : Nat) (a1 : A1) (a2 : A2) (a3 : A3) (a4 : A4) (a5 : A5) (a6 : A6) (a7 : A7) (a8 : A8) (a9 : A9) (a10 : A10) (a11 : A11) (a12 : A12), I a1 a2 a3 a4 a5 a6 a7 a8 a9 a10 a11 a12 → (∀ (b1 : A1) (b2 : A2) (b3 : A3) (b4 : A4) (b5 : A5) (b6 : A6) (b7 : A7) (b8 : A8) (b9 : A9) (b10 : A10) (b11 : A11) (b12 : A12), I b1 b2 b3 b4 b5 b6 b7 b8 b9 b10 b11 b12 → μ b1 b2 b3 b4 b5 b6 b7 b8 b9 b10 b11 b12 < μ a1 a2 a3 a4 a5 a6 a7 a8 a9 a10 a11 a12 → W n b1 b2 b3 b4 b5 b6 b7 b8 b9 b10 b11 b12) → W (n + 1) a1 a2 a3 a4 a5 a6 a7 a8 a9 a10 a11 a12) (a1 : A1) (a2 : A2) (a3 : A3) (a4 : A4) (a5 : A5) (a6 : A6) (a7 : A7) (a8 : A8) (a9 : A9) (a10 : A10) (a11 : A11) (a12 : A12) (h : I a1 a2 a3 a4 a5 a6 a7 a8 a9 a10 a11 a12) : ∃ n, W n a1 a2 a3 a4 a5 a6 a7 a8 a9 a10 a11 a12 :=
  loop_m (σ := A1 × A2 × A3 × A4 × A5 × A6 × A7 × A8 × A9 × A10 × A11 × A12) (fun n s => W n s.1 s.2.1 s.2.2.1 s.2.2.2.1 s.2.2.2.2.1 s.2.2.2.2.2.1 s.2.2.2.2.2.2.1 s.2.2.2.2.2.2.2.1 s.2.2.2.2.2.2.2.2.1 s.2.2.2.2.2.2.2.2.2.1 s.2.2.2.2.2.2.2.2.2.2.1 s.2.2.2.2.2.2.2.2.2.2.2) (fun s => I s.1 s.2.1 s.2.2.1 s.2.2.2.1 s.2.2.2.2.1 s.2.2.2.2.2.1 s.2.2.2.2.2.2.1 s.2.2.2.2.2.2.2.1 s.2.2.2.2.2.2.2.2.1 s.2.2.2.2.2.2.2.2.2.1 s.2.2.2.2.2.2.2.2.2.2.1 s.2.2.2.2.2.2.2.2.2.2.2) (fun s => μ s.1 s.2.1 s.2.2.1 s.2.2.2.1 s.2.2.2.2.1 s.2.2.2.2.2.1 s.2.2.2.2.2.2.1 s.2.2.2.2.2.2.2.1 s.2.2.2.2.2.2.2.2.1 s.2.2.2.2.2.2.2.2.2.1 s.2.2.2.2.2.2.2.2.2.2.1 s.2.2.2.2.2.2.2.2.2.2.2) (fun n s hI hk => hs n s.1 s.2.1 s.2.2.1 s.2.2.2.1 s.2.2.2.2.1 s.2.2.2.2.2.1 s.2.2.2.2.2.2.1 s.2.2.2.2.2.2.2.1 s.2.2.2.2.2.2.2.2.1 s.2.2.2.2.2.2.2.2.2.1 s.2.2.2.2.2.2.2.2.2.2.1 s.2.2.2.2.2.2.2.2.2.2.2 hI (fun b1 b2 b3 b4 b5 b6 b7 b8 b9 b10 b11 b12 h9 hm => hk (b1, b2, b3, b4, b5, b6, b7, b8, b9, b10, b11, b12) h9 hm)) (a1, a2, a3, a4, a5, a6, a7, a8, a9, a10, a11, a12) h
theorem lp13 {A1 A2 A3 A4 A5 A6 A7 A8 A9 A10 A11 A12 A13 : Type} (W : Nat → A1 → A2 → A3 → A4 → A5 → A6 → A7 → A8 → A9 → A10 → A11 → A12 → A13 → Prop) (I : A1 → A2 → A3 → A4 → A5 → A6 → A7 → A8 → A9 → A10 → A11 → A12 → A13 → Prop) (μ : A1 → A2 → A3 → A4 → A5 → A6 → A7 → A8 → A9 → A10 → A11 → A12 → A13 → Nat) (hs : ∀ (n : Nat) (a1 : A1) (a2 : A2) (a3 : A3) (a4 : A4) (a5 : A5) (a6 : A6) (a7 : A7) (a8 : A8) (a9 : A9) (a10 : A10) (a11 : A11) (a12 : A12) (a13 : A13), I a1 a2 a3 a4 a5 a6 a7 a8 a9 a10 a11 a12 a13 → (∀ (b1 : A1) (b2 : A2) (b3 : A3) (b4 : A4) (b5 : A5) (b6 : A6) (b7 : A7) (b8 : A8) (b9 : A9) (b10 : A10) (b11 : A11) (b12 : A12) (b13 : A13), I b1 b2 b3 b4 b5 b6 b7 b8 b9 b10 b11 b12 b13 → μ b1 b2 b3 b4 b5 b6 b7 b8 b9 b10 b11 b12 b13 < μ a1 a2 a3 a4 a5 a6 a7 a8 a9 a10 a11 a12 a13 → W n b1 b2 b3 b4 b5 b6 b7 b8 b9 b10 b11 b12 b13) → W (n + 1) a1 a2 a3 a4 a5 a6 a7 a8 a9 a10 a11 a12 a13) (a1 : A1) (a2 : A2) (a3 : A3) (a4 : A4) (a5 : A5) (a6 : A6) (a7 : A7) (a8 : A8) (a9 : A9) (a10 : A10) (a11 : A11) (a12 : A12) (a13 : A13) (h : I a1 a2 a3 a4 a5 a6 a7 a8 a9 a10 a11 a12 a13) : ∃ n, W n a1 a2 a3 a4 a5 a6 a7 a8 a9 a10 a11 a12 a13 :=
  loop_m (σ := A1 × A2 × A3 × A4 × A5 × A6 × A7 × A8 × A9 × A10 × A11 × A12 × A13) (fun n s => W n s.1 s.2.1 s.2.2.1 s.2.2.2.1 s.2.2.2.2.1 s.2.2.2.2.2.1 s.2.2.2.2.2.2.1 s.2.2.2.2.2.2.2.1 s.2.2.2.2.2.2.2.2.1 s.2.2.2.2.2.2.2.2.2.1 s.2.2.2.2.2.2.2.2.2.2.1 s.2.2.2.2.2.2.2.2.2.2.2.1 s.2.2.2.2.2.2.2.2.2.2.2.2) (fun s => I s.1 s.2.1 s.2.2.1 s.2.2.2.1 s.2.2.2.2.1 s.2.2.2.2.2.1 s.2.2.2.2.2.2.1 s.2.2.2.2.2.2.2.1 s.2.2.2.2.2.2.2.2.1 s.2.2.2.2.2.2.2.2.2.1 s.2.2.2.2.2.2.2.2.2.2.1 s.2.2.2.2.2.2.2.2.2.2.2.1 s.2.2.2.2.2.2.2.2.2.2.2.2) (fun s => μ s.1 s.2.1 s.2.2.1 s.2.2.2.1 s.2.2.2.2.1 s.2.2.2.2.2.1 s.2.2.2.2.2.2.1 s.2.2.2.2.2.2.2.1 s.2.2.2.2.2.2.2.2.1 s.2.2.2.2.2.2.2.2.2.1 s.2.2.2.2.2.2.2.2.2.2.1 s.2.2.2.2.2.2.2.2.2.2.2.1 s.2.2.2.2.2.2.2.2.2.2.2.2) (fun n s hI hk => hs n s.1 s.2.1 s.2.2.1 s.2.2.2.1 s.2.2.2.2.1 s.2.2.2.2.2.1 s.2.2.2.2.2.2.1 s.2.2.2.2.2.2.2.1 s.2.2.2.2.2.2.2.2.1 s.2.2.2.2.2.2.2.2.2.1 s.2.2.2.2.2.2.2.2.2.2.1 s.2.2.2.2.2.2.2.2.2.2.2.1 s.2.2.2.2.2.2.2.2.2.2.2.2 hI (fun b1 b2 b3 b4 b5 b6 b7 b8 b9 b10 b11 b12 b13 h9 hm => hk (b1, b2, b3, b4, b5, b6, b7, b8, b9, b10, b11, b12, b13) h9 hm)) (a1, a2, a3, a4, a5, a6, a7, a8, a9, a10, a11, a12, a13) h
theorem lp14 {A1 A2 A3 A4 A5 A6 A7 A8 A9 A10 A11 A12 A13 A14 : Type} (W : Nat → A1 → A2 → A3 → A4 → A5 → A6 → A7 → A8 → A9 → A10 → A11 → A12 → A13 → A14 → Prop) (I : A1 → A2 → A3 → A4 → A5 → A6 → A7 → A8 → A9 → A10 → A11 → A12 → A13 → A14 → Prop) (μ : A1 → A2 → A3 → A4 → A5 → A6 → A7 → A8 → A9 → A10 → A11 → A12 → A13 → A14 → Nat) (hs : ∀ (n : Nat) (a1 : A1) (a2 : A2) (a3 : A3) (a4 : A4) (a5 : A5) (a6 : A6) (a7 : A7) (a8 : A8) (a9 : A9) (a10 : A10) (a11 : A11) (a12 : A12) (a13 : A13) (a14 : A14), I a1 a2 a3 a4 a5 a6 a7 a8 a9 a10 a11 a12 a13 a14 → (∀ (b1 : A1) (b2 : A2) (b3 : A3) (b4 : A4) (b5 : A5) (b6 : A6) (b7 : A7) (b8 : A8) (b9 : A9) (b10 : A10) (b11 : A11) (b12 : A12) (b13 : A13) (b14 : A14), I b1 b2 b3 b4 b5 b6 b7 b8 b9 b10 b11 b12 b13 b14 → μ b1 b2 b3 b4 b5 b6 b7 b8 b9 b10 b11 b12 b13 b14 < μ a1 a2 a3 a4 a5 a6 a7 a8 a9 a10 a11 a12 a13 a14 → W n b1 b2 b3 b4 b5 b6 b7 b8 b9 b10 b11 b12 b13 b14) → W (n + 1) a1 a2 a3 a4 a5 a6 a7 a8 a9 a10 a11 a12 a13 a14) (a1 : A1) (a2 : A2) (a3 : A3) (a4 : A4) (a5 : A5) (a6 : A6) (a7 : A7) (a8 : A8) (a9 : A9) (a10 : A10) (a11 : A11) (a12 : A12) (a13 : A13) (a14 : A14) (h : I a1 a2 a3 a4 a5 a6 a7 a8 a9 a10 a11 a12 a13 a14) : ∃ n, W n a1 a2 a3 a4 a5 a6 a7 a8 a9 a10 a11 a12 a13 a14 :=
  loop_m (σ := A1 × A2 × A3 × A4 × A5 × A6 × A7 × A8 × A9 × A10 × A11 × A12 × A13 × A14) (fun n s => W n s.1 s.2.1 s.2.2.1 s.2.2.2.1 s.2.2.2.2.1 s.2.2.2.2.2.1 s.2.2.2.2.2.2.1 s.2.2.2.2.2.2.2.1 s.2.2.2.2.2.2.2.2.1 s.2.2.2.2.2.2.2.2.2.1 s.2.2.2.2.2.2.2.2.2.2.1 s.2.2.2.2.2.2.2.2.2.2.2.1 s.2.2.2.2.2.2.2.2.2.2.2.2.1 s.2.2.2.2.2.2.2.2.2.2.2.2.2) (fun s => I s.1 s.2.1 s.2.2.1 s.2.2.2.1 s.2.2.2.2.1 s.2.2.2.2.2.1 s.2.2.2.2.2.2.1 s.2.2.2.2.2.2.2.1 s.2.2.2.2.2.2.2.2.1 s.2.2.2.2.2.2.2.2.2.1 s.2.2.2.2.2.2.2.2.2.2.1 s.2.2.2.2.2.2.2.2.2.2.2.1 s.2.2.2.2.2.2.2.2.2.2.2.2.1 s.2.2.2.2.2.2.2.2.2.2.2.2.2) (fun s => μ s.1 s.2.1 s.2.2.1 s.2.2.2.1 s.2.2.2.2.1 s.2.2.2.2.2.1 s.2.2.2.2.2.2.1 s.2.2.2.2.2.2.2.1 s.2.2.2.2.2.2.2.2.1 s.2.2.2.2.2.2.2.2.2.1 s.2.2.2.2.2.2.2.2.2.2.1 s.2.2.2.2.2.2.2.2.2.2.2.1 s.2.2.2.2.2.2.2.2.2.2.2.2.1 s.2.2.2.2.2.2.2.2.2.2.2.2.2) (fun n s hI hk => hs n s.1 s.2.1 s.2.2.1 s.2.2.2.1 s.2.2.2.2.1 s.2.2.2.2.2.1 s.2.2.2.2.2.2.1 s.2.2.2.2.2.2.2.1 s.2.2.2.2.2.2.2.2.1 s.2.2.2.2.2.2.2.2.2.1 s.2.2.2.2.2.2.2.2.2.2.1 s.2.2.2.2.2.2.2.2.2.2.2.1 s.2.2.2.2.2.2.2.2.2.2.2.2.1 s.2.2.2.2.2.2.2.2.2.2.2.2.2 hI (fun b1 b2 b3 b4 b5 b6 b7 b8 b9 b10 b11 b12 b13 b14 h9 hm => hk (b1, b2, b3, b4, b5, b6, b7, b8, b9, b10, b11, b12, b13, b14) h9 hm)) (a1, a2, a3, a4, a5, a6, a7, a8, a9, a10, a11, a12, a13, a14) h
theorem lp15 {A1 A2 A3 A4 A5 A6 A7 A8 A9 A10 A11 A12 A13 A14 A15 : Type} (W : Nat → A1 → A2 → A3 → A4 → A5 → A6 → A7 → A8 → A9 → A10 → A11 → A12 → A13 → A14 → A15 → Prop) (I : A1 → A2 → A3 → A4 → A5 → A6 → A7 → A8 → A9 → A10 → A11 → A12 → A13 → A14 → A15 → Prop) (μ : A1 → A2 → A3 → A4 → A5 → A6 → A7 → A8 → A9 → A10 → A11 → A12 → A13 → A14 → A15 → Nat) (hs : ∀ (n : Nat) (a1 : A1) (a2 : A2) (a3 : A3) (a4 : A4) (a5 : A5) (a6 : A6) (a7 : A7) (a8 : A8) (a9 : A9) (a10 : A10) (a11 : A11) (a12 : A12) (a13 : A13) (a14 : A14) (a15 : A15), I a1 a2 a3 a4 a5 a6 a7 a8 a9 a10 a11 a12 a13 a14 a15 → (∀ (b1 : A1) (b2 : A2) (b3 : A3) (b4 : A4) (b5 : A5) (b6 : A6) (b7 : A7) (b8 : A8) (b9 : A9) (b10 : A10) (b11 : A11) (b12 : A12) (b13 : A13) (b14 : A14) (b15 : A15), I b1 b2 b3 b4 b5 b6 b7 b8 b9 b10 b11 b12 b13 b14 b15 → μ b1 b2 b3 b4 b5 b6 b7 b8 b9 b10 b11 b12 b13 b14 b15 < μ a1 a2 a3 a4 a5 a6 a7 a8 a9 a10 a11 a12 a13 a14 a15 → W n b1 b2 b3 b4 b5 b6 b7 b8 b9 b10 b11 b12 b13 b14 b15) → W (n + 1) a1 a2 a3 a4 a5 a6 a7 a8 a9 a10 a11 a12 a13 a14 a15) (a1 : A1) (a2 : A2) (a3 : A3) (a4 : A4) (a5 : A5) (a6 : A6) (a7 : A7) (a8 : A8) (a9 : A9) (a10 : A10) (a11 : A11) (a12 : A12) (a13 : A13) (a14 : A14) (a15 : A15) (h : I a1 a2 a3 a4 a5 a6 a7 a8 a9 a10 a11 a12 a13 a14 a15) : ∃ n, W n a1 a2 a3 a4 a5 a6 a7 a8 a9 a10 a11 a12 a13 a14 a15 :=
  loop_m (σ := A1 × A2 × A3 × A4 × A5 × A6 × A7 × A8 × A9 × A10 × A11 × A12 × A13 × A14 × A15) (fun n s => W n s.1 s.2.1 s.2.2.1 s.2.2.2.1 s.2.2.2.2.1 s.2.2.2.2.2.1 s.2.2.2.2.2.2.1 s.2.2.2.2.2.2.2.1 s.2.2.2.2.2.2.2.2.1 s.2.2.2.2.2.2.2.2.2.1 s.2.2.2.2.2.2.2.2.2.2.1 s.2.2.2.2.2.2.2.2.2.2.2.1 s.2.2.2.2.2.2.2.2.2.2.2.2.1 s.2.2.2.2.2.2.2.2.2.2.2.2.2.1 s.2.2.2.2.2.2.2.2.2.2.2.2.2.2) (fun s => I s.1 s.2.1 s.2.2.1 s.2.2.2.1 s.2.2.2.2.1 s.2.2.2.2.2.1 s.2.2.2.2.2.2.1 s.2.2.2.2.2.2.2.1 s.2.2.2.2.2.2.2.2.1 s.2.2.2.2.2.2.2.2.2.1 s.2.2.2.2.2.2.2.2.2.2.1 s.2.2.2.2.2.2.2.2.2.2.2.1 s.2.2.2.2.2.2.2.2.2.2.2.2.1 s.2.2.2.2.2.2.2.2.2.2.2.2.2.1 s.2.2.2.2.2.2.2.2.2.2.2.2.2.2) (fun s => μ s.1 s.2.1 s.2.2.1 s.2.2.2.1 s.2.2.2.2.1 s.2.2.2.2.2.1 s.2.2.2.2.2.2.1 s.2.2.2.2.2.2.2.1 s.2.2.2.2.2.2.2.2.1 s.2.2.2.2.2.2.2.2.2.1 s.2.2.2.2.2.2.2.2.2.2.1 s.2.2.2.2.2.2.2.2.2.2.2.1 s.2.2.2.2.2.2.2.2.2.2.2.2.1 s.2.2.2.2.2.2.2.2.2.2.2.2.2.1 s.2.2.2.2.2.2.2.2.2.2.2.2.2.2) (fun n s hI hk => hs n s.1 s.2.1 s.2.2.1 s.2.2.2.1 s.2.2.2.2.1 s.2.2.2.2.2.1 s.2.2.2.2.2.2.1 s.2.2.2.2.2.2.2.1 s.2.2.2.2.2.2.2.2.1 s.2.2.2.2.2.2.2.2.2.1 s.2.2.2.2.2.2.2.2.2.2.1 s.2.2.2.2.2.2.2.2.2.2.2.1 s.2.2.2.2.2.2.2.2.2.2.2.2.1 s.2.2.2.2.2.2.2.2.2.2.2.2.2.1 s.2.2.2.2.2.2.2.2.2.2.2.2.2.2 hI (fun b1 b2 b3 b4 b5 b6 b7 b8 b9 b10 b11 b12 b13 b14 b15 h9 hm => hk (b1, b2, b3, b4, b5, b6, b7, b8, b9, b10, b11, b12, b13, b14, b15) h9 hm)) (a1, a2, a3, a4, a5, a6, a7, a8, a9, a10, a11, a12, a13, a14, a15) h
theorem lp16 {A1 A2 A3 A4 A5 A6 A7 A8 A9 A10 A11 A12 A13 A14 A15 A16 : Type} (W : Nat → A1 → A2 → A3 → A4 → A5 → A6 → A7 → A8 → A9 → A10 → A11 → A12 → A13 → A14 → A15 → A16 → Prop) (I : A1 → A2 → A3 → A4 → A5 → A6 → A7 → A8 → A9 → A10 → A11 → A12 → A13 → A14 → A15 → A16 → Prop) (μ : A1 → A2 → A3 → A4 → A5 → A6 → A7 → A8 → A9 → A10 → A11 → A12 → A13 → A14 → A15 → A16 → Nat) (hs : ∀ (n : Nat) (a1 : A1) (a2 : A2) (a3 : A3) (a4 : A4) (a5 : A5) (a6 : A6) (a7 : A7) (a8 : A8) (a9 : A9) (a10 : A10) (a11 : A11) (a12 : A12) (a13 : A13) (a14 : A14) (a15 : A15) (a16 : A16), I a1 a2 a3 a4 a5 a6 a7 a8 a9 a10 a11 a12 a13 a14 a15 a16 → (∀ (b1 : A1) (b2 : A2) (b3 : A3) (b4 : A4) (b5 : A5) (b6 : A6) (b7 : A7) (b8 : A8) (b9 : A9) (b10 : A10) (b11 : A11) (b12 : A12) (b13 : A13) (b14 : A14) (b15 : A15) (b16 : A16), I b1 b2 b3 b4 b5 b6 b7 b8 b9 b10 b11 b12 b13 b14 b15 b16 → μ b1 b2 b3 b4 b5 b6 b7 b8 b9 b10 b11 b12 b13 b14 b15 b16 < μ a1 a2 a3 a4 a5 a6 a7 a8 a9 a10 a11 a12 a13 a14 a15 a16 → W n b1 b2 b3 b4 b5 b6 b7 b8 b9 b10 b11 b12 b13 b14 b15 b16) → W (n + 1) a1 a2 a3 a4 a5 a6 a7 a8 a9 a10 a11 a12 a13 a14 a15 a16) (a1 : A1) (a2 : A2) (a3 : A3) (a4 : A4) (a5 : A5) (a6 : A6) (a7 : A7) (a8 : A8) (a9 : A9) (a10 : A10) (a11 : A11) (a12 : A12) (a13 : A13) (a14 : A14) (a15 : A15) (a16 : A16) (h : I a1 a2 a3 a4 a5 a6 a7 a8 a9 a10 a11 a12 a13 a14 a15 a16) : ∃ n, W n a1 a2 a3 a4 a5 a6 a7 a8 a9 a10 a11 a12 a13 a14 a15 a16 :=
  loop_m (σ := A1 × A2 × A3 × A4 × A5 × A6 × A7 × A8 × A9 × A10 × A11 × A12 × A13 × A14 × A15 × A16) (fun n s => W n s.1 s.2.1 s.2.2.1 s.2.2.2.1 s.2.2.2.2.1 s.2.2.2.2.2.1 s.2.2.2.2.2.2.1 s.2.2.2.2.2.2.2.1 s.2.2.2.2.2.2.2.2.1 s.2.2.2.2.2.2.2.2.2.1 s.2.2.2.2.2.2.2.2.2.2.1 s.2.2.2.2.2.2.2.2.2.2.2.1 s.2.2.2.2.2.2.2.2.2.2.2.2.1 s.2.2.2.2.2.2.2.2.2.2.2.2.2.1 s.2.2.2.2.2.2.2.2.2.2.2.2.2.2.1 s.2.2.2.2.2.2.2.2.2.2.2.2.2.2.2) (fun s => I s.1 s.2.1 s.2.2.1 s.2.2.2.1 s.2.2.2.2.1 s.2.2.2.2.2.1 s.2.2.2.2.2.2.1 s.2.2.2.2.2.2.2.1 s.2.2.2.2.2.2.2.2.1 s.2.2.2.2.2.2.2.2.2.1 s.2.2.2.2.2.2.2.2.2.2.1 s.2.2.2.2.2.2.2.2.2.2.2.1 s.2.2.2.2.2.2.2.2.2.2.2.2.1 s.2.2.2.2.2.2.2.2.2.2.2.2.2.1 s.2.2.2.2.2.2.2.2.2.2.2.2.2.2.1 s.2.2.2.2.2.2.2.2.2.2.2.2.2.2.2) (fun s => μ s.1 s.2.1 s.2.2.1 s.2.2.2.1 s.2.2.2.2.1 s.2.2.2.2.2.1 s.2.2.2.2.2.2.1 s.2.2.2.2.2.2.2.1 s.2.2.2.2.2.2.2.2.1 s.2.2.2.2.2.2.2.2.2.1 s.2.2.2.2.2.2.2.2.2.2.1 s.2.2.2.2.2.2.2.2.2.2.2.1 s.2.2.2.2.2.2.2.2.2.2.2.2.1 s.2.2.2.2.2.2.2.2.2.2.2.2.2.1 s.2.2.2.2.2.2.2.2.2.2.2.2.2.2.1 s.2.2.2.2.2.2.2.2.2.2.2.2.2.2.2) (fun n s hI hk => hs n s.1 s.2.1 s.2.2.1 s.2.2.2.1 s.2.2.2.2.1 s.2.2.2.2.2.1 s.2.2.2.2.2.2.1 s.2.2.2.2.2.2.2.1 s.2.2.2.2.2.2.2.2.1 s.2.2.2.2.2.2.2.2.2.1 s.2.2.2.2.2.2.2.2.2.2.1 s.2.2.2.2.2.2.2.2.2.2.2.1 s.2.2.2.2.2.2.2.2.2.2.2.2.1 s.2.2.2.2.2.2.2.2.2.2.2.2.2.1 s.2.2.2.2.2.2.2.2.2.2.2.2.2.2.1 s.2.2.2.2.2.2.2.2.2.2.2.2.2.2.2 hI (fun b1 b2 b3 b4 b5 b6 b7 b8 b9 b10 b11 b12 b13 b14 b15 b16 h9 hm => hk (b1, b2, b3, b4, b5, b6, b7, b8, b9, b10, b11, b12, b13, b14, b15, b16) h9 hm)) (a1, a2, a3, a4, a5, a6, a7, a8, a9, a10, a11, a12, a13, a14, a15, a16) h
theorem pk_least (P : Nat → Prop) (h : ∃ k, P k) : ∃ k, P k ∧ ∀ j, j < k → ¬ P j := by
  obtain ⟨k, hk⟩ := h
  induction k using Nat.strongRecOn with
  | ind k ih =>
    by_cases e : ∃ j, j < k ∧ P j
    · obtain ⟨j, hj, pj⟩ := e
      exact ih j hj pj
    · exact ⟨k, hk, fun j hj pj => e ⟨j, hj, pj⟩⟩
theorem rp1 {ρ A1 : Type} (W : Nat → (ρ → Prop) → A1 → Prop) (ok : A1 → Prop) (μ : A1 → Nat) (val : A1 → ρ)
    (hs : ∀ (d : Nat) (post : ρ → Prop) (a1 : A1), ok a1 → post (val a1) → (∀ (post' : ρ → Prop) (b1 : A1), ok b1 → μ b1 < μ a1 → post' (val b1) → W d post' b1) → W (d + 1) post a1) :
    ∀ (d : Nat) (post : ρ → Prop) (a1 : A1), ok a1 → μ a1 < d → post (val a1) → W d post a1 := by
  intro d
  induction d with
  | zero => intro post a1 _ h; omega
  | succ d ih =>
    intro post a1 ho hm hp
    exact hs d post a1 ho hp (fun post' b1 ho' hm' hp' => ih post' b1 ho' (by omega) hp')
theorem rp2 {ρ A1 A2 : Type} (W : Nat → (ρ → Prop) → A1 → A2 → Prop) (ok : A1 → A2 → Prop) (μ : A1 → A2 → Nat) (val : A1 → A2 → ρ)
    (hs : ∀ (d : Nat) (post : ρ → Prop) (a1 : A1) (a2 : A2), ok a1 a2 → post (val a1 a2) → (∀ (post' : ρ → Prop) (b1 : A1) (b2 : A2), ok b1 b2 → μ b1 b2 < μ a1 a2 → post' (val b1 b2) → W d post' b1 b2) → W (d + 1) post a1 a2) :
    ∀ (d : Nat) (post : ρ → Prop) (a1 : A1) (a2 : A2), ok a1 a2 → μ a1 a2 < d → post (val a1 a2) → W d post a1 a2 := by
  intro d
  induction d with
  | zero => intro post a1 a2 _ h; omega
  | succ d ih =>
    intro post a1 a2 ho hm hp
    exact hs d post a1 a2 ho hp (fun post' b1 b2 ho' hm' hp' => ih post' b1 b2 ho' (by omega) hp')
theorem rp3 {ρ A1 A2 A3 : Type} (W : Nat → (ρ → Prop) → A1 → A2 → A3 → Prop) (ok : A1 → A2 → A3 → Prop) (μ : A1 → A2 → A3 → Nat) (val : A1 → A2 → A3 → ρ)
    (hs : ∀ (d : Nat) (post : ρ → Prop) (a1 : A1) (a2 : A2) (a3 : A3), ok a1 a2 a3 → post (val a1 a2 a3) → (∀ (post' : ρ → Prop) (b1 : A1) (b2 : A2) (b3 : A3), ok b1 b2 b3 → μ b1 b2 b3 < μ a1 a2 a3 → post' (val b1 b2 b3) → W d post' b1 b2 b3) → W (d + 1) post a1 a2 a3) :
    ∀ (d : Nat) (post : ρ → Prop) (a1 : A1) (a2 : A2) (a3 : A3), ok a1 a2 a3 → μ a1 a2 a3 < d → post (val a1 a2 a3) → W d post a1 a2 a3 := by
  intro d
  induction d with
  | zero => intro post a1 a2 a3 _ h; omega
  | succ d ih =>
    intro post a1 a2 a3 ho hm hp
    exact hs d post a1 a2 a3 ho hp (fun post' b1 b2 b3 ho' hm' hp' => ih post' b1 b2 b3 ho' (by omega) hp')
theorem rp4 {ρ A1 A2 A3 A4 : Type} (W : Nat → (ρ → Prop) → A1 → A2 → A3 → A4 → Prop) (ok : A1 → A2 → A3 → A4 → Prop) (μ : A1 → A2 → A3 → A4 → Nat) (val : A1 → A2 → A3 → A4 → ρ)
    (hs : ∀ (d : Nat) (post : ρ → Prop) (a1 : A1) (a2 : A2) (a3 : A3) (a4 : A4), ok a1 a2 a3 a4 → post (val a1 a2 a3 a4) → (∀ (post' : ρ → Prop) (b1 : A1) (b2 : A2) (b3 : A3) (b4 : A4), ok b1 b2 b3 b4 → μ b1 b2 b3 b4 < μ a1 a2 a3 a4 → post' (val b1 b2 b3 b4) → W d post' b1 b2 b3 b4) → W (d + 1) post a1 a2 a3 a4) :
    ∀ (d : Nat) (post : ρ → Prop) (a1 : A1) (a2 : A2) (a3 : A3) (a4 : A4), ok a1 a2 a3 a4 → μ a1 a2 a3 a4 < d → post (val a1 a2 a3 a4) → W d post a1 a2 a3 a4 := by
  intro d
  induction d with
  | zero => intro post a1 a2 a3 a4 _ h; omega
  | succ d ih =>
    intro post a1 a2 a3 a4 ho hm hp
    exact hs d post a1 a2 a3 a4 ho hp (fun post' b1 b2 b3 b4 ho' hm' hp' => ih post' b1 b2 b3 b4 ho' (by omega) hp')
theorem rp5 {ρ A1 A2 A3 A4 A5 : Type} (W : Nat → (ρ → Prop) → A1 → A2 → A3 → A4 → A5 → Prop) (ok : A1 → A2 → A3 → A4 → A5 → Prop) (μ : A1 → A2 → A3 → A4 → A5 → Nat) (val : A1 → A2 → A3 → A4 → A5 → ρ)
    (hs : ∀ (d : Nat) (post : ρ → Prop) (a1 : A1) (a2 : A2) (a3 : A3) (a4 : A4) (a5 : A5), ok a1 a2 a3 a4 a5 → post (val a1 a2 a3 a4 a5) → (∀ (post' : ρ → Prop) (b1 : A1) (b2 : A2) (b3 : A3) (b4 : A4) (b5 : A5), ok b1 b2 b3 b4 b5 → μ b1 b2 b3 b4 b5 < μ a1 a2 a3 a4 a5 → post' (val b1 b2 b3 b4 b5) → W d post' b1 b2 b3 b4 b5) → W (d + 1) post a1 a2 a3 a4 a5) :
    ∀ (d : Nat) (post : ρ → Prop) (a1 : A1) (a2 : A2) (a3 : A3) (a4 : A4) (a5 : A5), ok a1 a2 a3 a4 a5 → μ a1 a2 a3 a4 a5 < d → post (val a1 a2 a3 a4 a5) → W d post a1 a2 a3 a4 a5 := by
  intro d
  induction d with
  | zero => intro post a1 a2 a3 a4 a5 _ h; omega
  | succ d ih =>
    intro post a1 a2 a3 a4 a5 ho hm hp
    exact hs d post a1 a2 a3 a4 a5 ho hp (fun post' b1 b2 b3 b4 b5 ho' hm' hp' => ih post' b1 b2 b3 b4 b5 ho' (by omega) hp')
theorem rp6 {ρ A1 A2 A3 A4 A5 A6 : Type} (W : Nat → (ρ → Prop) → A1 → A2 → A3 → A4 → A5 → A6 → Prop) (ok : A1 → A2 → A3 → A4 → A5 → A6 → Prop) (μ : A1 → A2 → A3 → A4 → A5 → A6 → Nat) (val : A1 → A2 → A3 → A4 → A5 → A6 → ρ)
    (hs : ∀ (d : Nat) (post : ρ → Prop) (a1 : A1) (a2 : A2) (a3 : A3) (a4 : A4) (a5 : A5) (a6 : A6), ok a1 a2 a3 a4 a5 a6 → post (val a1 a2 a3 a4 a5 a6) → (∀ (post' : ρ → Prop) (b1 : A1) (b2 : A2) (b3 : A3) (b4 : A4) (b5 : A5) (b6 : A6), ok b1 b2 b3 b4 b5 b6 → μ b1 b2 b3 b4 b5 b6 < μ a1 a2 a3 a4 a5 a6 → post' (val b1 b2 b3 b4 b5 b6) → W d post' b1 b2 b3 b4 b5 b6) → W (d + 1) post a1 a2 a3 a4 a5 a6) :
    ∀ (d : Nat) (post : ρ → Prop) (a1 : A1) (a2 : A2) (a3 : A3) (a4 : A4) (a5 : A5) (a6 : A6), ok a1 a2 a3 a4 a5 a6 → μ a1 a2 a3 a4 a5 a6 < d → post (val a1 a2 a3 a4 a5 a6) → W d post a1 a2 a3 a4 a5 a6 := by
  intro d
  induction d with
  | zero => intro post a1 a2 a3 a4 a5 a6 _ h; omega
  | succ d ih =>
    intro post a1 a2 a3 a4 a5 a6 ho hm hp
    exact hs d post a1 a2 a3 a4 a5 a6 ho hp (fun post' b1 b2 b3 b4 b5 b6 ho' hm' hp' => ih post' b1 b2 b3 b4 b5 b6 ho' (by omega) hp')
theorem rec_p {σ ρ : Type} (W : Nat → (ρ → Prop) → σ → Prop) (ok : σ → Prop) (μ : σ → Nat) (val : σ → ρ)
    (hs : ∀ d s post, ok s → post (val s) → (∀ s' post', ok s' → μ s' < μ s → post' (val s') → W d post' s') → W (d + 1) post s) :
    ∀ d s post, ok s → μ s < d → post (val s) → W d post s := by
  intro d
  induction d with
  | zero => intro s post _ h; omega
  | succ d ih =>
    intro s post ho hm hp
    exact hs d s post ho hp (fun s' post' ho' hm' hp' => ih s' post' ho' (by omega) hp')
theorem rec_q {σ ρ : Type} (W : Nat → (ρ → Prop) → σ → Prop) (ok : σ → Prop) (μ : σ → Nat) (Q : σ → ρ → Prop)
    (hs : ∀ d s post, ok s → (∀ r, Q s r → post r) → (∀ s' post', ok s' → μ s' < μ s → (∀ r, Q s' r → post' r) → W d post' s') → W (d + 1) post s) :
    ∀ d s post, ok s → μ s < d → (∀ r, Q s r → post r) → W d post s := by
  intro d
  induction d with
  | zero => intro s post _ h; omega
  | succ d ih =>
    intro s post ho hm hp
    exact hs d s post ho hp (fun s' post' ho' hm' hp' => ih s' post' ho' (by omega) hp')
def bx_sum (f : Nat → Int32) : Nat → Int32
  | 0 => 0
  | n + 1 => bx_sum f n + f n
theorem ek_u {A : Prop} {B : Nat → Prop} {k N : Nat} (hk : k < N) (h : B k) : (some k = none → A) ∧ (∀ y : Nat, some k = some y → (y < N ∧ B y)) :=
  ⟨fun z => absurd z (Option.some_ne_none k), fun _ e => (by cases e; exact ⟨hk, h⟩)⟩
theorem ek_nu {A : Prop} {B : Nat → Prop} (h : A) : ((none : Option Nat) = none → A) ∧ (∀ y : Nat, (none : Option Nat) = some y → B y) :=
  ⟨fun _ => h, fun _ e => (by cases e)⟩
theorem ek_if {c d A B : Prop} (e : c ↔ d) (f : d → A) (g : ¬ d → B) : (c → A) ∧ (¬ c → B) :=
  ⟨fun z => f (e.mp z), fun z => g (fun y => z (e.mpr y))⟩
theorem ek_v {α : Sort _} {P : α → Prop} {a b : α} (e : a = b) (h : P b) : P a := e ▸ h
theorem co_some {x : Option Nat} {A : Prop} {B : Nat → Prop} (i : Nat) (h : B i) (hx : x = some i := by rfl) : (x = none → A) ∧ (∀ y : Nat, x = some y → B y) := by
  subst hx
  exact ⟨fun e => (nomatch e), fun y e => Option.some.inj e ▸ h⟩
theorem co_none {x : Option Nat} {A : Prop} {B : Nat → Prop} (h : A) (hx : x = none := by rfl) : (x = none → A) ∧ (∀ y : Nat, x = some y → B y) := by
  subst hx
  exact ⟨fun _ => h, fun y e => (nomatch e)⟩
theorem co_any {x : Option Nat} {A : Prop} {B : Nat → Prop} (hn : x = none → A) (hs : ∀ i : Nat, x = some i → B i) : (x = none → A) ∧ (∀ y : Nat, x = some y → B y) := ⟨hn, hs⟩
theorem co_2 {P : Nat → Prop} (h0 : P 0) (h1 : P 1) {i : Nat} (hi : i < 2) : P i :=
  match i, hi with
  | 0, _ => h0
  | 1, _ => h1
theorem co_3 {P : Nat → Prop} (h0 : P 0) (h1 : P 1) (h2 : P 2) {i : Nat} (hi : i < 3) : P i :=
  match i, hi with
  | 0, _ => h0
  | 1, _ => h1
  | 2, _ => h2
theorem co_4 {P : Nat → Prop} (h0 : P 0) (h1 : P 1) (h2 : P 2) (h3 : P 3) {i : Nat} (hi : i < 4) : P i :=
  match i, hi with
  | 0, _ => h0
  | 1, _ => h1
  | 2, _ => h2
  | 3, _ => h3
theorem co_dec {N : Nat} {P : Nat → Prop} [DecidablePred P] (h : (List.range N).all (fun i => decide (P i)) = true) {i : Nat} (hi : i < N) : P i := by
  have := List.all_eq_true.mp h i (List.mem_range.mpr hi)
  exact of_decide_eq_true this
theorem co_tab {α : Type} {l : List α} {d : α} {P : α → Prop} (h : ∀ a, a ∈ l → P a) {i : Nat} (hi : i < l.length) : P (l.getD i d) := by
  rw [List.getD_eq_getElem?_getD, List.getElem?_eq_getElem hi]
  exact h _ (List.getElem_mem hi)
theorem pk_mu {x : Int32} {L : Nat} (h0 : ¬ x < 0) (h : ¬ nI L ≤ x) (hL : L < 2 ^ 31) : ∃ j : Nat, j < L ∧ x = nI j ∧ x + 1 = nI (j + 1) ∧ x.toNatClampNeg = j ∧ L - (x + 1).toNatClampNeg < L - x.toNatClampNeg := by
  obtain ⟨j, hj, rfl⟩ := nI_of h0
  have hl : j < L := Nat.not_le.mp fun q => h (nI_le q hj)
  refine ⟨j, hl, rfl, nI_1 j, nI_clamp hj, ?_⟩
  rw [nI_1, nI_clamp (by omega), nI_clamp hj]
  omega
theorem op_s {α : Type} {r : Option α} {A : Prop} {B : α → Prop} {y : α} (h : r = some y) (b : B y) : (r = none → A) ∧ ∀ z, r = some z → B z :=
  ⟨fun e => (by rw [h] at e; cases e), fun z e => (by rw [h] at e; cases e; exact b)⟩
def l_holds {α : Type} (a : Nat → Option Nat) (LP : List Nat) (p : Nat → α) (c : Nat) (b : Nat → α) : Prop :=
  ∀ j, j < c → ∃ y, a j = some y ∧ y ∈ LP ∧ p y = b j
theorem l_holds_0 {α : Type} {a : Nat → Option Nat} {LP : List Nat} {p b : Nat → α} : l_holds a LP p 0 b := fun j h => absurd h (Nat.not_lt_zero j)
theorem l_in_new (LP : List Nat) (q : Nat) : q ∈ LP ++ [q] := List.mem_append.mpr (Or.inr (List.mem_singleton.mpr rfl))
def l_sum (b : Nat → Int32) : Nat → Int32
  | 0 => 0
  | k + 1 => l_sum b k + b k
theorem sb_shr0 (x : Int32) : x >>> ((0 : Int32) &&& 31) = x := by
  rw [show ((0 : Int32) &&& 31) = 0 by decide]
  simp
theorem sb_shl0 (x : Int32) : x <<< ((0 : Int32) &&& 31) = x := by
  rw [show ((0 : Int32) &&& 31) = 0 by decide]
  simp
theorem sb_cl0 : (0 : Int32).toNatClampNeg = 0 := by decide
theorem sb_m1 {p : Nat} (h : 0 < p) : nI p + (-1) = nI (p - 1) := by
  obtain ⟨q, rfl⟩ : ∃ q, p = q + 1 := ⟨p - 1, by omega⟩
  exact pk_m1 q
def sb_b (c : Nat) : Int32 := (nI c).toInt8.toInt32
theorem sb_byte : ∀ c, c < 256 → sb_b c &&& 255 = nI c ∧ ((nI c).toUInt32 % 65536).toInt32 = nI c ∧ nI c ≤ 255 := by decide +kernel
def sb_Fit (a : Nat → Int32) : Prop := ∀ j, fits .byte (.int (a j)) = true
def sb_Lat (t : Nat → Nat) (n : Nat) (a : Nat → Int32) : Prop := ∀ j, j < n → t j < 256 ∧ a j = sb_b (t j)
theorem sb_fitB (c : Nat) : fits .byte (.int (sb_b c)) = true := pk_fb _
theorem sb_fit0 : sb_Fit (fun _ => 0) := fun _ => by
  show fits .byte (.int 0) = true
  decide
theorem sb_fitU {a : Nat → Int32} {k : Nat} {x : Int32} (h : sb_Fit a) (hx : fits .byte (.int x) = true) : sb_Fit (upd a k x) := by
  intro j
  by_cases e : j = k
  · subst e
    rw [pk_us]
    exact hx
  · rw [pk_un e]
    exact h j
def sb_cat (t : Nat → Nat) (n : Nat) (s : Nat → Nat) : Nat → Nat := fun j => if j < n then t j else s (j - n)
theorem sb_cat_lo {t s : Nat → Nat} {n j : Nat} (h : j < n) : sb_cat t n s j = t j := if_pos h
theorem sb_cat_hi {t s : Nat → Nat} {n j : Nat} : sb_cat t n s (n + j) = s j := by
  show (if n + j < n then t (n + j) else s (n + j - n)) = s j
  rw [if_neg (by omega), Nat.add_sub_cancel_left]
theorem sb_latPut {t s : Nat → Nat} {n w : Nat} {a a' : Nat → Int32} (h : sb_Lat t n a) (hk : ∀ j, j < n → a' j = a j) (hs : ∀ i, i < w → s i < 256 ∧ a' (n + i) = sb_b (s i)) : sb_Lat (sb_cat t n s) (n + w) a' := by
  intro j hj
  by_cases e : j < n
  · rw [sb_cat_lo e, hk j e]
    exact h j e
  · obtain ⟨i, rfl⟩ : ∃ i, j = n + i := ⟨j - n, by omega⟩
    rw [sb_cat_hi]
    exact hs i (by omega)
theorem sb_latKeep {t : Nat → Nat} {n : Nat} {a a' : Nat → Int32} (h : sb_Lat t n a) (hk : ∀ j, j < n → a' j = a j) : sb_Lat t n a' := fun j hj => by
  rw [hk j hj]
  exact h j hj
def sb_cap (q m : Nat) : Nat := if q ≤ m then m else if 2 * m + 2 < q then q else 2 * m + 2
def sb_Room (q m mc ms : Nat) : Prop := q ≤ m ∨ (1 ≤ mc ∧ sb_cap q m ≤ ms ∧ sb_cap q m ≤ 65536)
theorem sb_cap_ge (q m : Nat) : q ≤ sb_cap q m := by
  unfold sb_cap
  split
  · omega
  · split <;> omega
theorem sb_cap_gem (q m : Nat) : m ≤ sb_cap q m := by
  unfold sb_cap
  split
  · omega
  · split <;> omega
theorem sb_cap_le {q m mc ms : Nat} (hm : m ≤ 65536) (hr : sb_Room q m mc ms) : sb_cap q m ≤ 65536 := by
  rcases hr with h | h
  · rw [sb_cap, if_pos h]
    exact hm
  · exact h.2.2
theorem sb_at {P : Int32 → Prop} {x y : Int32} (e : x = y) (h : P y) : P x := e ▸ h
def sb_dg (w : Nat) : Nat := if w < 10 then 1 else if w < 100 then 2 else if w < 1000 then 3 else if w < 10000 then 4 else if w < 100000 then 5 else if w < 1000000 then 6 else if w < 10000000 then 7 else if w < 100000000 then 8 else if w < 1000000000 then 9 else 10
def sb_dec (v : Nat) : Nat → Nat := fun i => 48 + v / 10 ^ (sb_dg v - 1 - i) % 10
theorem sb_dg_in (w : Nat) : 1 ≤ sb_dg w ∧ sb_dg w ≤ 10 := by
  unfold sb_dg
  constructor <;> (repeat' split) <;> omega
theorem sb_dg100 {w : Nat} (h : 100 ≤ w) (hw : w < 2 ^ 31) : sb_dg w = sb_dg (w / 100) + 2 := by
  rw [sb_dg, sb_dg, if_neg (show ¬ w < 10 by omega), if_neg (show ¬ w < 100 by omega)]
  by_cases h3 : w < 1000
  · rw [if_pos h3, if_pos (show w / 100 < 10 by omega)]
  rw [if_neg h3, if_neg (show ¬ w / 100 < 10 by omega)]
  by_cases h4 : w < 10000
  · rw [if_pos h4, if_pos (show w / 100 < 100 by omega)]
  rw [if_neg h4, if_neg (show ¬ w / 100 < 100 by omega)]
  by_cases h5 : w < 100000
  · rw [if_pos h5, if_pos (show w / 100 < 1000 by omega)]
  rw [if_neg h5, if_neg (show ¬ w / 100 < 1000 by omega)]
  by_cases h6 : w < 1000000
  · rw [if_pos h6, if_pos (show w / 100 < 10000 by omega)]
  rw [if_neg h6, if_neg (show ¬ w / 100 < 10000 by omega)]
  by_cases h7 : w < 10000000
  · rw [if_pos h7, if_pos (show w / 100 < 100000 by omega)]
  rw [if_neg h7, if_neg (show ¬ w / 100 < 100000 by omega)]
  by_cases h8 : w < 100000000
  · rw [if_pos h8, if_pos (show w / 100 < 1000000 by omega)]
  rw [if_neg h8, if_neg (show ¬ w / 100 < 1000000 by omega)]
  by_cases h9 : w < 1000000000
  · rw [if_pos h9, if_pos (show w / 100 < 10000000 by omega)]
  rw [if_neg h9, if_neg (show ¬ w / 100 < 10000000 by omega)]
  rw [if_pos (show w / 100 < 100000000 by omega)]
theorem sb_negT {w : Nat} (h : w < 2 ^ 31) : (-nI w).toInt = -(w : Int) := by
  rw [Int32.toInt_neg, nI_toInt h]
  exact Int.bmod_eq_of_le (by omega) (by omega)
theorem sb_nle {a b : Nat} (ha : a < 2 ^ 31) (hb : b < 2 ^ 31) : -nI a ≤ -nI b ↔ b ≤ a := by
  rw [Int32.le_iff_toInt_le, sb_negT ha, sb_negT hb]
  omega
theorem sb_nlt {a b : Nat} (ha : a < 2 ^ 31) (hb : b < 2 ^ 31) : -nI a < -nI b ↔ b < a := by
  rw [Int32.lt_iff_toInt_lt, sb_negT ha, sb_negT hb]
  omega
theorem sb_cmp {A B : Prop} {x : Int32} (v c : Nat) (f : c ≤ v → A) (g : v < c → B) (hv : v < 2 ^ 31) (hx : x = -nI c := by rfl) (hc : c < 2 ^ 31 := by omega) : (-nI v ≤ x → A) ∧ (¬ -nI v ≤ x → B) := by
  subst hx
  rw [sb_nle hv hc]
  exact ⟨f, fun z => g (by omega)⟩
theorem sb_ndiv {w : Nat} (hw : w < 2 ^ 31) : (-nI w) / 100 = -nI (w / 100) := by
  apply Int32.toInt_inj.mp
  have h100 : (100 : Int32).toInt = 100 := by decide
  rw [Int32.toInt_div, sb_negT hw, h100, sb_negT (by omega), Int.neg_tdiv, Int.tdiv_eq_ediv_of_nonneg (by omega), Int.bmod_eq_of_le (by omega) (by omega)]
  omega
theorem sb_nrem {w : Nat} (hw : w < 2 ^ 31) : (-nI (w / 100)) * 100 - (-nI w) = nI (w % 100) := by
  have h := pk_rem (a := w) (d := 100) hw (by decide) (by decide)
  rw [pk_div hw (by decide) (by decide)] at h
  rw [← h]
  show (-nI (w / 100)) * nI 100 - (-nI w) = nI w - nI (w / 100) * nI 100
  rw [Int32.neg_mul, Int32.sub_neg, Int32.add_comm, ← Int32.sub_eq_add_neg]
end
section
/-! a parse as a pure machine: a state is (depth, pos, nodes, entries: ref, state, first, start; nodes: rule, first, last, state, look, kids, start) -/
abbrev qm_C : Type := Nat × Nat × Nat × (Nat → Nat) × (Nat → Nat) × (Nat → Nat) × (Nat → Nat) × (Nat → Nat) × (Nat → Nat) × (Nat → Nat) × (Nat → Nat) × (Nat → Nat) × (Nat → Nat → Nat) × (Nat → Nat)
def qc_d (c : qm_C) : Nat := c.1
def qc_p (c : qm_C) : Nat := c.2.1
def qc_n (c : qm_C) : Nat := c.2.2.1
def qc_er (c : qm_C) : Nat → Nat := c.2.2.2.1
def qc_es (c : qm_C) : Nat → Nat := c.2.2.2.2.1
def qc_ef (c : qm_C) : Nat → Nat := c.2.2.2.2.2.1
def qc_eb (c : qm_C) : Nat → Nat := c.2.2.2.2.2.2.1
def qc_R (c : qm_C) : Nat → Nat := c.2.2.2.2.2.2.2.1
def qc_F (c : qm_C) : Nat → Nat := c.2.2.2.2.2.2.2.2.1
def qc_L (c : qm_C) : Nat → Nat := c.2.2.2.2.2.2.2.2.2.1
def qc_S (c : qm_C) : Nat → Nat := c.2.2.2.2.2.2.2.2.2.2.1
def qc_K (c : qm_C) : Nat → Nat := c.2.2.2.2.2.2.2.2.2.2.2.1
def qc_C (c : qm_C) : Nat → Nat → Nat := c.2.2.2.2.2.2.2.2.2.2.2.2.1
def qc_B (c : qm_C) : Nat → Nat := c.2.2.2.2.2.2.2.2.2.2.2.2.2
/-- the table: left sides, lengths, right sides' symbols, cells -/
abbrev qm_T : Type := (Nat → Nat) × (Nat → Nat) × (Nat → Nat → Nat) × (Nat → Nat)
def qt_lh (tb : qm_T) : Nat → Nat := tb.1
def qt_ln (tb : qm_T) : Nat → Nat := tb.2.1
def qt_nb (tb : qm_T) : Nat → Nat → Nat := tb.2.2.1
def qt_ce (tb : qm_T) : Nat → Nat := tb.2.2.2
/-- the tokens and their count -/
abbrev qm_W : Type := (Nat → Nat) × Nat
def qm_up (f : Nat → Nat) (k v : Nat) : Nat → Nat := fun j => if j = k then v else f j
theorem qm_us (f : Nat → Nat) (k v : Nat) : qm_up f k v k = v := if_pos rfl
theorem qm_un {f : Nat → Nat} {k v j : Nat} (h : j ≠ k) : qm_up f k v j = f j := if_neg h
def qm_sym (W : qm_W) (p : Nat) : Nat := if p < W.2 then W.1 p else 7
def qm_sb (c : qm_C) (e : Nat) : Nat := if e = 0 then 0 else qc_es c (e - 1)
def qm_top (c : qm_C) : Nat := qm_sb c (qc_d c)
def qm_la (W : qm_W) (c : qm_C) : Nat := qm_sym W (qc_p c)
def qm_act (tb : qm_T) (W : qm_W) (c : qm_C) : Nat := qt_ce tb (qm_top c * 12 + qm_la W c)
def qm_sy (tb : qm_T) (W : qm_W) (c : qm_C) (e : Nat) : Nat := if qc_er c e < 256 then qt_lh tb (qc_R c (qc_er c e)) else W.1 (qc_er c e - 256)
def qm_rb (tb : qm_T) (c : qm_C) (r : Nat) : Nat := qc_d c - qt_ln tb r
def qm_rok (tb : qm_T) (W : qm_W) (c : qm_C) (r : Nat) : Prop := qt_ln tb r ≠ 0 ∧ qt_ln tb r ≤ qc_d c ∧ (∀ i, i < qt_ln tb r → qm_sy tb W c (qm_rb tb c r + i) = qt_nb tb r i) ∧ qt_ce tb (qm_sb c (qm_rb tb c r) * 12 + qt_lh tb r) ≠ 0
def qm_go (tb : qm_T) (W : qm_W) (c : qm_C) : Prop := qm_act tb W c ≠ 0 ∧ qm_act tb W c ≠ 16 ∧ (16 < qm_act tb W c → qm_rok tb W c (qm_act tb W c - 32))
def qm_sh (c : qm_C) (a : Nat) : qm_C := (qc_d c + 1, qc_p c + 1, qc_n c, qm_up (qc_er c) (qc_d c) (256 + qc_p c), qm_up (qc_es c) (qc_d c) a, qm_up (qc_ef c) (qc_d c) (qc_p c), qm_up (qc_eb c) (qc_d c) (qc_n c), qc_R c, qc_F c, qc_L c, qc_S c, qc_K c, qc_C c, qc_B c)
def qm_rd (tb : qm_T) (c : qm_C) (r la : Nat) : qm_C := (qm_rb tb c r + 1, qc_p c, qc_n c + 1, qm_up (qc_er c) (qm_rb tb c r) (qc_n c), qm_up (qc_es c) (qm_rb tb c r) (qt_ce tb (qm_sb c (qm_rb tb c r) * 12 + qt_lh tb r)), qc_ef c, qc_eb c, qm_up (qc_R c) (qc_n c) r, qm_up (qc_F c) (qc_n c) (qc_ef c (qm_rb tb c r)), qm_up (qc_L c) (qc_n c) (qc_p c - 1), qm_up (qc_S c) (qc_n c) (qm_sb c (qm_rb tb c r)), qm_up (qc_K c) (qc_n c) la, (fun x k => if x = qc_n c then qc_er c (qm_rb tb c r + k) else qc_C c x k), qm_up (qc_B c) (qc_n c) (qc_eb c (qm_rb tb c r)))
def qm_nx (tb : qm_T) (W : qm_W) (c : qm_C) : qm_C := if qm_act tb W c ≤ 15 then qm_sh c (qm_act tb W c) else qm_rd tb c (qm_act tb W c - 32) (qm_la W c)
def qm_c0 : qm_C := (0, 0, 0, (fun _ => 0), (fun _ => 0), (fun _ => 0), (fun _ => 0), (fun _ => 0), (fun _ => 0), (fun _ => 0), (fun _ => 0), (fun _ => 0), (fun _ _ => 0), (fun _ => 0))
def qm_run (tb : qm_T) (W : qm_W) : Nat → qm_C
  | 0 => qm_c0
  | k + 1 => qm_nx tb W (qm_run tb W k)
def qm_goes (tb : qm_T) (W : qm_W) (k : Nat) : Prop := ∀ j, j < k → qm_go tb W (qm_run tb W j)
/-- the table is one that the setters allow -/
def qm_tv (tb : qm_T) : Prop := (∀ r, r < 12 → qt_ln tb r ≠ 0 → qt_ln tb r ≤ 4 ∧ 8 ≤ qt_lh tb r ∧ qt_lh tb r ≤ 11 ∧ (qt_ln tb r = 1 → 8 ≤ qt_nb tb r 0 → qt_lh tb r < qt_nb tb r 0)) ∧ (∀ s c, s < 16 → c < 12 → (c < 7 → qt_ce tb (s * 12 + c) ≤ 15 ∨ (32 ≤ qt_ce tb (s * 12 + c) ∧ qt_ce tb (s * 12 + c) ≤ 43)) ∧ (c = 7 → qt_ce tb (s * 12 + c) = 0 ∨ qt_ce tb (s * 12 + c) = 16 ∨ (32 ≤ qt_ce tb (s * 12 + c) ∧ qt_ce tb (s * 12 + c) ≤ 43)) ∧ (8 ≤ c → qt_ce tb (s * 12 + c) ≤ 15))
def qm_wv (W : qm_W) : Prop := W.2 ≤ 16 ∧ ∀ p, p < W.2 → W.1 p ≤ 6
def qm_pe (c : qm_C) (e : Nat) : Nat := if e < qc_d c then qc_ef c e else qc_p c
def qm_be (c : qm_C) (e : Nat) : Nat := if e < qc_d c then qc_eb c e else qc_n c
def qm_cp (c : qm_C) (x : Nat) : Nat → Nat
  | 0 => qc_F c x
  | k + 1 => if qc_C c x k < 256 then qc_L c (qc_C c x k) + 1 else qm_cp c x k + 1
/-- an entry that is a bare token, or a node -/
def qj_tok (c : qm_C) (e : Nat) : Prop := qc_er c e = 256 + qm_pe c e ∧ qm_pe c (e + 1) = qm_pe c e + 1 ∧ qm_be c (e + 1) = qm_be c e
def qj_nod (c : qm_C) (e : Nat) : Prop := qc_er c e < 256 ∧ qc_er c e + 1 = qm_be c (e + 1) ∧ qc_F c (qc_er c e) = qm_pe c e ∧ qc_L c (qc_er c e) + 1 = qm_pe c (e + 1) ∧ qc_B c (qc_er c e) = qm_be c e ∧ qc_S c (qc_er c e) = qm_sb c e ∧ qm_be c e ≤ qc_er c e
def qj_e (tb : qm_T) (W : qm_W) (c : qm_C) (e : Nat) : Prop := qm_pe c e < qm_pe c (e + 1) ∧ qm_be c e ≤ qm_be c (e + 1) ∧ qc_es c e < 16 ∧ qc_es c e = qt_ce tb (qm_sb c e * 12 + qm_sy tb W c e) ∧ (qj_tok c e ∨ qj_nod c e)
def qj_E (tb : qm_T) (W : qm_W) (c : qm_C) : Prop := qc_p c ≤ W.2 ∧ qm_pe c 0 = 0 ∧ qm_be c 0 = 0 ∧ ∀ e, e < qc_d c → qj_e tb W c e
def qj_N (tb : qm_T) (W : qm_W) (c : qm_C) (x : Nat) : Prop := qc_R c x < 12 ∧ qt_ln tb (qc_R c x) ≠ 0 ∧ qc_F c x ≤ qc_L c x ∧ qc_L c x < qc_p c ∧ qc_B c x ≤ x ∧ qc_K c x = qm_sym W (qc_L c x + 1) ∧ qc_S c x < 16 ∧ qt_lh tb (qc_R c x) + x + 1 + 8 * qc_F c x ≤ 8 * (qc_L c x + 1) + 4 + qc_B c x
def qj_K (tb : qm_T) (c : qm_C) (x : Nat) : Prop := (∀ k, k < qt_ln tb (qc_R c x) → (qc_C c x k = 256 + qm_cp c x k ∧ qc_F c x ≤ qm_cp c x k ∧ qm_cp c x k ≤ qc_L c x) ∨ (qc_B c x ≤ qc_C c x k ∧ qc_C c x k < x ∧ qc_C c x k < 256)) ∧ (qc_C c x 0 < 256 → qc_S c (qc_C c x 0) = qc_S c x ∧ qc_F c (qc_C c x 0) = qc_F c x)
def qj_R (c : qm_C) : Prop := ∀ e, e < qc_d c → ∀ x, qm_be c e ≤ x → x < qm_be c (e + 1) → qm_pe c e ≤ qc_F c x ∧ qc_L c x < qm_pe c (e + 1)
def qj_B (c : qm_C) : Prop := ∀ x, x < qc_n c → ∀ y, qc_B c x ≤ y → y ≤ x → qc_F c x ≤ qc_F c y ∧ qc_L c y ≤ qc_L c x
def qj_P (tb : qm_T) (c : qm_C) : Prop := ∀ x y, y < x → x < qc_n c → qc_F c y = qc_F c x → qc_C c x 0 < 256 ∧ y ≤ qc_C c x 0 ∧ qc_B c x ≤ y ∧ (qc_L c y = qc_L c x → qt_lh tb (qc_R c x) < qt_lh tb (qc_R c y))
def qm_J (tb : qm_T) (W : qm_W) (c : qm_C) : Prop := qj_E tb W c ∧ (∀ x, x < qc_n c → qj_N tb W c x ∧ qj_K tb c x) ∧ qj_R c ∧ qj_B c ∧ qj_P tb c
theorem qj_0 (tb : qm_T) (W : qm_W) : qm_J tb W qm_c0 := by
  refine ⟨⟨Nat.zero_le _, rfl, rfl, ?_⟩, ?_, ?_, ?_, ?_⟩
  · intro e he; exact absurd he (Nat.not_lt_zero _)
  · intro e he; exact absurd he (Nat.not_lt_zero _)
  · intro e he; exact absurd he (Nat.not_lt_zero _)
  · intro e he; exact absurd he (Nat.not_lt_zero _)
  · intro x y _ he; exact absurd he (Nat.not_lt_zero _)
theorem qm_ped {c : qm_C} {e : Nat} (h : e < qc_d c) : qm_pe c e = qc_ef c e := if_pos h
theorem qm_bed {c : qm_C} {e : Nat} (h : e < qc_d c) : qm_be c e = qc_eb c e := if_pos h
theorem qm_peD {c : qm_C} : qm_pe c (qc_d c) = qc_p c := if_neg (Nat.lt_irrefl _)
theorem qm_beD {c : qm_C} : qm_be c (qc_d c) = qc_n c := if_neg (Nat.lt_irrefl _)
section
variable {tb : qm_T} {W : qm_W} {c : qm_C}
theorem qj_lh (hv : qm_tv tb) (J : qm_J tb W c) {x : Nat} (hx : x < qc_n c) : 8 ≤ qt_lh tb (qc_R c x) ∧ qt_lh tb (qc_R c x) ≤ 11 := by
  obtain ⟨h1, h2, _⟩ := (J.2.1 x hx).1
  have h := hv.1 _ h1 h2
  exact ⟨h.2.1, h.2.2.1⟩
/-- one entry's bounds -/
theorem qj_beN (J : qm_J tb W c) : ∀ k e, e + k = qc_d c → qm_be c e ≤ qc_n c := by
  intro k
  induction k with
  | zero => intro e he; rw [show e = qc_d c by omega, qm_beD]; exact Nat.le_refl _
  | succ k ih =>
    intro e he
    have h1 := ih (e + 1) (by omega)
    have h2 := (J.1.2.2.2 e (by omega)).2.1
    omega
theorem qj_erN (J : qm_J tb W c) {e : Nat} (he : e < qc_d c) (hn : qj_nod c e) : qc_er c e < qc_n c := by
  have h1 := qj_beN J (qc_d c - (e + 1)) (e + 1) (by omega)
  have h2 := hn.2.1
  omega
theorem qj_one (hv : qm_tv tb) (J : qm_J tb W c) {e : Nat} (he : e < qc_d c) : qm_be c (e + 1) + 4 + 8 * qm_pe c e ≤ qm_be c e + 8 * qm_pe c (e + 1) := by
  obtain ⟨h1, h2, h3, h4, h5⟩ := J.1.2.2.2 e he
  rcases h5 with h | h
  · obtain ⟨_, h6, h7⟩ := h; omega
  · have hx := qj_erN J he h
    have hl := (qj_lh hv J hx).1
    have hN := (J.2.1 _ hx).1.2.2.2.2.2.2.2
    obtain ⟨_, a1, a2, a3, a4, _, _⟩ := h
    omega
theorem qj_mono (hv : qm_tv tb) (J : qm_J tb W c) : ∀ k e, e + k ≤ qc_d c → qm_pe c e + k ≤ qm_pe c (e + k) ∧ qm_be c e ≤ qm_be c (e + k) ∧ qm_be c (e + k) + 4 * k + 8 * qm_pe c e ≤ qm_be c e + 8 * qm_pe c (e + k) := by
  intro k
  induction k with
  | zero => intro e _; exact ⟨Nat.le_refl _, Nat.le_refl _, by simp⟩
  | succ k ih =>
    intro e he
    obtain ⟨h1, h2, h3⟩ := ih e (by omega)
    obtain ⟨g1, g2, _⟩ := J.1.2.2.2 (e + k) (by omega)
    have g3 := qj_one hv J (e := e + k) (by omega)
    rw [show e + (k + 1) = e + k + 1 by omega]
    exact ⟨by omega, by omega, by omega⟩
theorem qj_le (hv : qm_tv tb) (J : qm_J tb W c) {e f : Nat} (h : e ≤ f) (hf : f ≤ qc_d c) : qm_pe c e ≤ qm_pe c f ∧ qm_be c e ≤ qm_be c f ∧ (e < f → qm_pe c e < qm_pe c f) := by
  obtain ⟨h1, h2, _⟩ := qj_mono hv J (f - e) e (by omega)
  rw [show e + (f - e) = f by omega] at h1 h2
  exact ⟨by omega, h2, fun hl => by omega⟩
theorem qj_cnt (hv : qm_tv tb) (hw : qm_wv W) (J : qm_J tb W c) : qc_n c + 4 * qc_d c ≤ 8 * qc_p c ∧ qc_d c ≤ qc_p c ∧ qc_p c ≤ 16 ∧ qc_n c ≤ 124 ∧ (qc_d c = 0 → qc_n c = 0 ∧ qc_p c = 0) := by
  obtain ⟨h1, h2, h3⟩ := qj_mono hv J (qc_d c) 0 (by omega)
  rw [Nat.zero_add, qm_peD] at h1
  rw [Nat.zero_add, qm_peD, qm_beD, J.1.2.1, J.1.2.2.1] at h3
  rw [J.1.2.1] at h1
  have hp := J.1.1
  have hm := hw.1
  have h0 : qc_d c = 0 → qc_n c = 0 ∧ qc_p c = 0 := by
    intro h
    have a : qm_pe c (qc_d c) = 0 := by rw [h]; exact J.1.2.1
    have b : qm_be c (qc_d c) = 0 := by rw [h]; exact J.1.2.2.1
    rw [qm_peD] at a
    rw [qm_beD] at b
    exact ⟨b, a⟩
  refine ⟨by omega, by omega, by omega, ?_, h0⟩
  by_cases hd : qc_d c = 0
  · rw [(h0 hd).1]; exact Nat.zero_le _
  · omega
/-- each node lies within an entry -/
theorem qj_in (J : qm_J tb W c) {x : Nat} : ∀ k e, e + k ≤ qc_d c → qm_be c e ≤ x → x < qm_be c (e + k) → ∃ f, e ≤ f ∧ f < e + k ∧ qm_be c f ≤ x ∧ x < qm_be c (f + 1) := by
  intro k
  induction k with
  | zero => intro e _ h1 h2; exact absurd h2 (by simp only [Nat.add_zero]; omega)
  | succ k ih =>
    intro e he h1 h2
    by_cases h : x < qm_be c (e + k)
    · obtain ⟨f, f1, f2, f3⟩ := ih e (by omega) h1 h
      exact ⟨f, f1, by omega, f3⟩
    · exact ⟨e + k, by omega, by omega, by omega, h2⟩
theorem qj_in' (J : qm_J tb W c) {x e : Nat} (he : e ≤ qc_d c) (h1 : qm_be c e ≤ x) (h2 : x < qc_n c) : ∃ f, e ≤ f ∧ f < qc_d c ∧ qm_be c f ≤ x ∧ x < qm_be c (f + 1) := by
  obtain ⟨f, f1, f2, f3⟩ := qj_in J (x := x) (qc_d c - e) e (by omega) h1 (by rw [show e + (qc_d c - e) = qc_d c by omega, qm_beD]; exact h2)
  exact ⟨f, f1, by omega, f3⟩
theorem qj_span (hv : qm_tv tb) (J : qm_J tb W c) {x e : Nat} (he : e ≤ qc_d c) (h1 : qm_be c e ≤ x) (h2 : x < qc_n c) : qm_pe c e ≤ qc_F c x ∧ qc_L c x < qc_p c := by
  obtain ⟨f, f1, f2, f3, f4⟩ := qj_in' J he h1 h2
  obtain ⟨g1, g2⟩ := J.2.2.1 f f2 x f3 f4
  have a1 := (qj_le hv J f1 (by omega)).1
  have a2 := (J.2.1 x h2).1.2.2.2.1
  exact ⟨by omega, a2⟩
theorem qj_top (J : qm_J tb W c) {e : Nat} (he : e ≤ qc_d c) : qm_sb c e < 16 := by
  unfold qm_sb
  by_cases h : e = 0
  · rw [if_pos h]; omega
  · rw [if_neg h]; exact (J.1.2.2.2 (e - 1) (by omega)).2.2.1
end
theorem qm_sym_le {W : qm_W} (hw : qm_wv W) (p : Nat) : qm_sym W p ≤ 7 ∧ (qm_sym W p < 7 → p < W.2) := by
  unfold qm_sym
  by_cases h : p < W.2
  · rw [if_pos h]; have := hw.2 p h; exact ⟨by omega, fun _ => h⟩
  · rw [if_neg h]; exact ⟨Nat.le_refl _, fun z => absurd z (Nat.lt_irrefl _)⟩
/-- what the cell under the machine can be -/
theorem qm_actv {tb : qm_T} {W : qm_W} {c : qm_C} (hv : qm_tv tb) (hw : qm_wv W) (J : qm_J tb W c) : (qm_act tb W c ≤ 15 ∧ (qm_act tb W c ≠ 0 → qc_p c < W.2)) ∨ qm_act tb W c = 16 ∨ (32 ≤ qm_act tb W c ∧ qm_act tb W c ≤ 43) := by
  have ht : qm_top c < 16 := qj_top J (Nat.le_refl _)
  obtain ⟨hl, hp⟩ := qm_sym_le hw (qc_p c)
  obtain ⟨h1, h2, _⟩ := hv.2 (qm_top c) (qm_sym W (qc_p c)) ht (by omega)
  unfold qm_act qm_la
  by_cases h7 : qm_sym W (qc_p c) = 7
  · rcases h2 h7 with h | h | h
    · exact Or.inl ⟨by omega, fun z => absurd h z⟩
    · exact Or.inr (Or.inl h)
    · exact Or.inr (Or.inr h)
  · rcases h1 (by omega) with h | h
    · exact Or.inl ⟨h, fun _ => hp (by omega)⟩
    · exact Or.inr (Or.inr h)
end
section
section
variable {tb : qm_T} {W : qm_W} {c : qm_C}
/-! a shift keeps the shape -/
theorem qs_pe {a e : Nat} (h : e ≤ qc_d c) : qm_pe (qm_sh c a) e = qm_pe c e := by
  have h1 : qm_pe (qm_sh c a) e = qm_up (qc_ef c) (qc_d c) (qc_p c) e := if_pos (Nat.lt_succ_of_le h)
  rw [h1]
  by_cases he : e = qc_d c
  · rw [he, qm_us, qm_peD]
  · rw [qm_un he, qm_ped (by omega)]
theorem qs_pe1 {a : Nat} : qm_pe (qm_sh c a) (qc_d c + 1) = qc_p c + 1 := qm_peD (c := qm_sh c a)
theorem qs_be {a e : Nat} (h : e ≤ qc_d c) : qm_be (qm_sh c a) e = qm_be c e := by
  have h1 : qm_be (qm_sh c a) e = qm_up (qc_eb c) (qc_d c) (qc_n c) e := if_pos (Nat.lt_succ_of_le h)
  rw [h1]
  by_cases he : e = qc_d c
  · rw [he, qm_us, qm_beD]
  · rw [qm_un he, qm_bed (by omega)]
theorem qs_be1 {a : Nat} : qm_be (qm_sh c a) (qc_d c + 1) = qc_n c := qm_beD (c := qm_sh c a)
theorem qs_er {a e : Nat} (h : e < qc_d c) : qc_er (qm_sh c a) e = qc_er c e := qm_un (Nat.ne_of_lt h)
theorem qs_er1 {a : Nat} : qc_er (qm_sh c a) (qc_d c) = 256 + qc_p c := qm_us _ _ _
theorem qs_es {a e : Nat} (h : e < qc_d c) : qc_es (qm_sh c a) e = qc_es c e := qm_un (Nat.ne_of_lt h)
theorem qs_es1 {a : Nat} : qc_es (qm_sh c a) (qc_d c) = a := qm_us _ _ _
theorem qs_sb {a e : Nat} (h : e ≤ qc_d c) : qm_sb (qm_sh c a) e = qm_sb c e := by
  unfold qm_sb
  by_cases he : e = 0
  · rw [if_pos he, if_pos he]
  · rw [if_neg he, if_neg he, qs_es (by omega)]
theorem qs_sy {a e : Nat} (h : e < qc_d c) : qm_sy tb W (qm_sh c a) e = qm_sy tb W c e := by
  unfold qm_sy; rw [qs_er h]; rfl
theorem qs_sy1 {a : Nat} : qm_sy tb W (qm_sh c a) (qc_d c) = W.1 (qc_p c) := by
  unfold qm_sy; rw [qs_er1, if_neg (by omega), Nat.add_sub_cancel_left]
theorem qs_cp {a x : Nat} : ∀ k, qm_cp (qm_sh c a) x k = qm_cp c x k := by
  intro k
  induction k with
  | zero => rfl
  | succ k ih =>
    show (if qc_C c x k < 256 then qc_L c (qc_C c x k) + 1 else qm_cp (qm_sh c a) x k + 1) = (if qc_C c x k < 256 then qc_L c (qc_C c x k) + 1 else qm_cp c x k + 1)
    rw [ih]
theorem qs_J (hv : qm_tv tb) (hw : qm_wv W) (J : qm_J tb W c) (h0 : qm_act tb W c ≠ 0) (h15 : qm_act tb W c ≤ 15) : qm_J tb W (qm_sh c (qm_act tb W c)) := by
  have hp : qc_p c < W.2 := by
    rcases qm_actv hv hw J with h | h | h
    · exact h.2 h0
    · omega
    · omega
  refine ⟨⟨hp, ?_, ?_, ?_⟩, ?_, ?_, ?_, ?_⟩
  · rw [qs_pe (Nat.zero_le _)]; exact J.1.2.1
  · rw [qs_be (Nat.zero_le _)]; exact J.1.2.2.1
  · intro e he
    have he' : e < qc_d c + 1 := he
    by_cases hd : e = qc_d c
    · subst hd
      refine ⟨?_, ?_, ?_, ?_, Or.inl ⟨?_, ?_, ?_⟩⟩
      · rw [qs_pe (Nat.le_refl _), qs_pe1, qm_peD]; exact Nat.lt_succ_self _
      · rw [qs_be (Nat.le_refl _), qs_be1, qm_beD]; exact Nat.le_refl _
      · rw [qs_es1]; omega
      · rw [qs_es1, qs_sb (Nat.le_refl _), qs_sy1]
        show qt_ce tb (qm_top c * 12 + qm_la W c) = _
        unfold qm_la qm_sym
        rw [if_pos hp]; rfl
      · rw [qs_er1, qs_pe (Nat.le_refl _), qm_peD]
      · rw [qs_pe1, qs_pe (Nat.le_refl _), qm_peD]
      · rw [qs_be1, qs_be (Nat.le_refl _), qm_beD]
    · have hl : e < qc_d c := by omega
      obtain ⟨g1, g2, g3, g4, g5⟩ := J.1.2.2.2 e hl
      refine ⟨?_, ?_, ?_, ?_, ?_⟩
      · rw [qs_pe (by omega), qs_pe (by omega)]; exact g1
      · rw [qs_be (by omega), qs_be (by omega)]; exact g2
      · rw [qs_es hl]; exact g3
      · rw [qs_es hl, qs_sb (by omega), qs_sy hl]; exact g4
      · rcases g5 with g | g
        · refine Or.inl ?_
          unfold qj_tok
          rw [qs_er hl, qs_pe (by omega), qs_pe (by omega), qs_be (by omega), qs_be (by omega)]
          exact g
        · refine Or.inr ?_
          unfold qj_nod
          rw [qs_er hl, qs_pe (by omega), qs_pe (by omega), qs_be (by omega), qs_be (by omega), qs_sb (by omega)]
          exact g
  · intro x hx
    obtain ⟨⟨n1, n2, n3, n4, n5⟩, k1, k2⟩ := J.2.1 x hx
    refine ⟨⟨n1, n2, n3, Nat.lt_succ_of_lt n4, n5⟩, ?_, k2⟩
    intro k hk
    rw [qs_cp]
    exact k1 k hk
  · intro e he x h1 h2
    have he' : e < qc_d c + 1 := he
    by_cases hd : e = qc_d c
    · subst hd
      rw [qs_be (Nat.le_refl _), qm_beD] at h1
      rw [qs_be1] at h2
      omega
    · rw [qs_be (by omega)] at h1 h2
      rw [qs_pe (by omega), qs_pe (by omega)]
      exact J.2.2.1 e (by omega) x h1 h2
  · exact J.2.2.2.1
  · exact J.2.2.2.2
/-! a reduction keeps the shape -/
theorem qr_dle {r la e : Nat} (h : e ≤ qm_rb tb c r) : e < qc_d (qm_rd tb c r la) := Nat.lt_succ_of_le h
theorem qr_pe {r la e : Nat} (hb : qm_rb tb c r < qc_d c) (h : e ≤ qm_rb tb c r) : qm_pe (qm_rd tb c r la) e = qm_pe c e := by
  rw [qm_ped (qr_dle h), qm_ped (by omega)]; rfl
theorem qr_pe1 {r la : Nat} : qm_pe (qm_rd tb c r la) (qm_rb tb c r + 1) = qc_p c := qm_peD (c := qm_rd tb c r la)
theorem qr_be {r la e : Nat} (hb : qm_rb tb c r < qc_d c) (h : e ≤ qm_rb tb c r) : qm_be (qm_rd tb c r la) e = qm_be c e := by
  rw [qm_bed (qr_dle h), qm_bed (by omega)]; rfl
theorem qr_be1 {r la : Nat} : qm_be (qm_rd tb c r la) (qm_rb tb c r + 1) = qc_n c + 1 := qm_beD (c := qm_rd tb c r la)
theorem qr_er {r la e : Nat} (h : e < qm_rb tb c r) : qc_er (qm_rd tb c r la) e = qc_er c e := qm_un (Nat.ne_of_lt h)
theorem qr_er1 {r la : Nat} : qc_er (qm_rd tb c r la) (qm_rb tb c r) = qc_n c := qm_us _ _ _
theorem qr_es {r la e : Nat} (h : e < qm_rb tb c r) : qc_es (qm_rd tb c r la) e = qc_es c e := qm_un (Nat.ne_of_lt h)
theorem qr_es1 {r la : Nat} : qc_es (qm_rd tb c r la) (qm_rb tb c r) = qt_ce tb (qm_sb c (qm_rb tb c r) * 12 + qt_lh tb r) := qm_us _ _ _
theorem qr_sb {r la e : Nat} (h : e ≤ qm_rb tb c r) : qm_sb (qm_rd tb c r la) e = qm_sb c e := by
  unfold qm_sb
  by_cases he : e = 0
  · rw [if_pos he, if_pos he]
  · rw [if_neg he, if_neg he, qr_es (by omega)]
theorem qr_R {r la x : Nat} (h : x < qc_n c) : qc_R (qm_rd tb c r la) x = qc_R c x := qm_un (Nat.ne_of_lt h)
theorem qr_F {r la x : Nat} (h : x < qc_n c) : qc_F (qm_rd tb c r la) x = qc_F c x := qm_un (Nat.ne_of_lt h)
theorem qr_L {r la x : Nat} (h : x < qc_n c) : qc_L (qm_rd tb c r la) x = qc_L c x := qm_un (Nat.ne_of_lt h)
theorem qr_S {r la x : Nat} (h : x < qc_n c) : qc_S (qm_rd tb c r la) x = qc_S c x := qm_un (Nat.ne_of_lt h)
theorem qr_K {r la x : Nat} (h : x < qc_n c) : qc_K (qm_rd tb c r la) x = qc_K c x := qm_un (Nat.ne_of_lt h)
theorem qr_B {r la x : Nat} (h : x < qc_n c) : qc_B (qm_rd tb c r la) x = qc_B c x := qm_un (Nat.ne_of_lt h)
theorem qr_C {r la x k : Nat} (h : x < qc_n c) : qc_C (qm_rd tb c r la) x k = qc_C c x k := if_neg (Nat.ne_of_lt h)
theorem qr_R1 {r la : Nat} : qc_R (qm_rd tb c r la) (qc_n c) = r := qm_us _ _ _
theorem qr_F1 {r la : Nat} : qc_F (qm_rd tb c r la) (qc_n c) = qc_ef c (qm_rb tb c r) := qm_us _ _ _
theorem qr_L1 {r la : Nat} : qc_L (qm_rd tb c r la) (qc_n c) = qc_p c - 1 := qm_us _ _ _
theorem qr_S1 {r la : Nat} : qc_S (qm_rd tb c r la) (qc_n c) = qm_sb c (qm_rb tb c r) := qm_us _ _ _
theorem qr_K1 {r la : Nat} : qc_K (qm_rd tb c r la) (qc_n c) = la := qm_us _ _ _
theorem qr_B1 {r la : Nat} : qc_B (qm_rd tb c r la) (qc_n c) = qc_eb c (qm_rb tb c r) := qm_us _ _ _
theorem qr_C1 {r la k : Nat} : qc_C (qm_rd tb c r la) (qc_n c) k = qc_er c (qm_rb tb c r + k) := if_pos rfl
theorem qr_sy {r la e : Nat} (J : qm_J tb W c) (hd : e < qc_d c) (h : e < qm_rb tb c r) : qm_sy tb W (qm_rd tb c r la) e = qm_sy tb W c e := by
  unfold qm_sy
  rw [qr_er h]
  rcases (J.1.2.2.2 e hd).2.2.2.2 with g | g
  · rw [if_neg (by rw [g.1]; omega), if_neg (by rw [g.1]; omega)]
  · rw [qr_R (qj_erN J hd g)]
theorem qr_cp {r la x : Nat} (J : qm_J tb W c) (hx : x < qc_n c) : ∀ k, k ≤ qt_ln tb (qc_R c x) → qm_cp (qm_rd tb c r la) x k = qm_cp c x k := by
  intro k
  induction k with
  | zero => intro _; exact qr_F hx
  | succ k ih =>
    intro hk
    show (if qc_C (qm_rd tb c r la) x k < 256 then qc_L (qm_rd tb c r la) (qc_C (qm_rd tb c r la) x k) + 1 else qm_cp (qm_rd tb c r la) x k + 1) = (if qc_C c x k < 256 then qc_L c (qc_C c x k) + 1 else qm_cp c x k + 1)
    rw [qr_C hx, ih (by omega)]
    rcases (J.2.1 x hx).2.1 k (by omega) with g | g
    · rw [if_neg (by rw [g.1]; omega), if_neg (by rw [g.1]; omega)]
    · rw [qr_L (by omega)]
/-- the handle's places -/
theorem qr_cp1 {r la : Nat} (J : qm_J tb W c) (hb : qm_rb tb c r < qc_d c) : ∀ k, qm_rb tb c r + k ≤ qc_d c → qm_cp (qm_rd tb c r la) (qc_n c) k = qm_pe c (qm_rb tb c r + k) := by
  intro k
  induction k with
  | zero => intro _; rw [Nat.add_zero, qm_ped hb]; exact qr_F1
  | succ k ih =>
    intro hk
    show (if qc_C (qm_rd tb c r la) (qc_n c) k < 256 then qc_L (qm_rd tb c r la) (qc_C (qm_rd tb c r la) (qc_n c) k) + 1 else qm_cp (qm_rd tb c r la) (qc_n c) k + 1) = qm_pe c (qm_rb tb c r + (k + 1))
    rw [qr_C1, ih (by omega)]
    have hd : qm_rb tb c r + k < qc_d c := by omega
    rcases (J.1.2.2.2 _ hd).2.2.2.2 with g | g
    · rw [if_neg (by rw [g.1]; omega), ← g.2.1]; rfl
    · rw [if_pos g.1, qr_L (qj_erN J hd g), g.2.2.2.1]; rfl
/-- a unit rule stands below its child in the order of symbols -/
theorem qr_unit {r : Nat} (hv : qm_tv tb) (hr : r < 12) (J : qm_J tb W c) (hk : qm_rok tb W c r) (h1 : qt_ln tb r = 1) (hn : qj_nod c (qm_rb tb c r)) : qt_lh tb r < qt_lh tb (qc_R c (qc_er c (qm_rb tb c r))) := by
  have hb : qm_rb tb c r < qc_d c := by
    have := hk.1; have := hk.2.1; unfold qm_rb; omega
  have hx := qj_erN J hb hn
  have hs := hk.2.2.1 0 (by omega)
  unfold qm_sy at hs
  rw [Nat.add_zero, if_pos hn.1] at hs
  have hl := (qj_lh hv J hx).1
  have h := (hv.1 r hr hk.1).2.2.2 h1
  rw [hs]
  exact h (by omega)
end
end
section
section
variable {tb : qm_T} {W : qm_W} {c : qm_C}
theorem qr_E {r : Nat} (hv : qm_tv tb) (hw : qm_wv W) (hr : r < 12) (J : qm_J tb W c) (hk : qm_rok tb W c r) : qj_E tb W (qm_rd tb c r (qm_la W c)) := by
  have hl0 := hk.1
  have hl1 := hk.2.1
  have hb : qm_rb tb c r < qc_d c := by unfold qm_rb; omega
  obtain ⟨c1, c2, c3, c4, _⟩ := qj_cnt hv hw J
  have hlt := hv.1 r hr hl0
  have hle := qj_le hv J (e := qm_rb tb c r) (f := qc_d c) (by omega) (Nat.le_refl _)
  rw [qm_peD, qm_beD] at hle
  refine ⟨J.1.1, ?_, ?_, ?_⟩
  · rw [qr_pe hb (Nat.zero_le _)]; exact J.1.2.1
  · rw [qr_be hb (Nat.zero_le _)]; exact J.1.2.2.1
  · intro e he
    have he' : e < qm_rb tb c r + 1 := he
    by_cases hd : e = qm_rb tb c r
    · subst hd
      refine ⟨?_, ?_, ?_, ?_, Or.inr ⟨?_, ?_, ?_, ?_, ?_, ?_, ?_⟩⟩
      · rw [qr_pe hb (Nat.le_refl _), qr_pe1]; exact hle.2.2 hb
      · rw [qr_be hb (Nat.le_refl _), qr_be1]; omega
      · rw [qr_es1]
        have := (hv.2 (qm_sb c (qm_rb tb c r)) (qt_lh tb r) (qj_top J (by omega)) (by omega)).2.2 hlt.2.1
        omega
      · rw [qr_es1, qr_sb (Nat.le_refl _)]
        unfold qm_sy
        rw [qr_er1, if_pos (by omega), qr_R1]
      · rw [qr_er1]; omega
      · rw [qr_er1, qr_be1]
      · rw [qr_er1, qr_F1, qr_pe hb (Nat.le_refl _), qm_ped hb]
      · rw [qr_er1, qr_L1, qr_pe1]; omega
      · rw [qr_er1, qr_B1, qr_be hb (Nat.le_refl _), qm_bed hb]
      · rw [qr_er1, qr_S1, qr_sb (Nat.le_refl _)]
      · rw [qr_er1, qr_be hb (Nat.le_refl _)]; exact hle.2.1
    · have hl : e < qm_rb tb c r := by omega
      have hdd : e < qc_d c := by omega
      obtain ⟨g1, g2, g3, g4, g5⟩ := J.1.2.2.2 e hdd
      refine ⟨?_, ?_, ?_, ?_, ?_⟩
      · rw [qr_pe hb (by omega), qr_pe hb (by omega)]; exact g1
      · rw [qr_be hb (by omega), qr_be hb (by omega)]; exact g2
      · rw [qr_es hl]; exact g3
      · rw [qr_es hl, qr_sb (by omega), qr_sy J hdd hl]; exact g4
      · rcases g5 with g | g
        · refine Or.inl ?_
          unfold qj_tok
          rw [qr_er hl, qr_pe hb (by omega), qr_pe hb (by omega), qr_be hb (by omega), qr_be hb (by omega)]
          exact g
        · refine Or.inr ?_
          have hx := qj_erN J hdd g
          unfold qj_nod
          rw [qr_er hl, qr_pe hb (by omega), qr_pe hb (by omega), qr_be hb (by omega), qr_be hb (by omega), qr_sb (by omega), qr_F hx, qr_L hx, qr_B hx, qr_S hx]
          exact g
theorem qr_N {r : Nat} (hv : qm_tv tb) (hw : qm_wv W) (hr : r < 12) (J : qm_J tb W c) (hk : qm_rok tb W c r) : ∀ x, x < qc_n c + 1 → qj_N tb W (qm_rd tb c r (qm_la W c)) x := by
  have hl0 := hk.1
  have hl1 := hk.2.1
  have hb : qm_rb tb c r < qc_d c := by unfold qm_rb; omega
  have hbd : qm_rb tb c r + qt_ln tb r = qc_d c := by unfold qm_rb; omega
  obtain ⟨c1, c2, c3, c4, _⟩ := qj_cnt hv hw J
  have hlt := hv.1 r hr hl0
  have hle := qj_le hv J (e := qm_rb tb c r) (f := qc_d c) (by omega) (Nat.le_refl _)
  rw [qm_peD, qm_beD] at hle
  have hp := hle.2.2 hb
  intro x hx
  by_cases hxn : x = qc_n c
  · subst hxn
    unfold qj_N
    rw [qr_R1, qr_F1, qr_L1, qr_S1, qr_K1, qr_B1, ← qm_ped hb, ← qm_bed hb]
    refine ⟨hr, hl0, by omega, ?_, hle.2.1, ?_, qj_top J (by omega), ?_⟩
    · show qc_p c - 1 < qc_p c; omega
    · unfold qm_la; rw [show qc_p c - 1 + 1 = qc_p c by omega]
    · rw [show qc_p c - 1 + 1 = qc_p c by omega]
      by_cases h1 : qt_ln tb r = 1
      · have hbd1 : qm_rb tb c r + 1 = qc_d c := by omega
        rcases (J.1.2.2.2 _ hb).2.2.2.2 with g | g
        · obtain ⟨_, g2, g3⟩ := g
          rw [hbd1, qm_peD] at g2
          rw [hbd1, qm_beD] at g3
          omega
        · have hu := qr_unit hv hr J hk h1 g
          have hx' := qj_erN J hb g
          have hN := (J.2.1 _ hx').1.2.2.2.2.2.2.2
          obtain ⟨_, g2, g3, g4, g5, _, _⟩ := g
          rw [hbd1, qm_beD] at g2
          rw [hbd1, qm_peD] at g4
          omega
      · have hm := (qj_mono hv J (qt_ln tb r) (qm_rb tb c r) (by omega)).2.2
        rw [hbd, qm_peD, qm_beD] at hm
        omega
  · have hx' : x < qc_n c := by omega
    have h := (J.2.1 x hx').1
    unfold qj_N
    rw [qr_R hx', qr_F hx', qr_L hx', qr_S hx', qr_K hx', qr_B hx']
    exact h
theorem qr_Kd {r : Nat} (hv : qm_tv tb) (hw : qm_wv W) (hr : r < 12) (J : qm_J tb W c) (hk : qm_rok tb W c r) : ∀ x, x < qc_n c + 1 → qj_K tb (qm_rd tb c r (qm_la W c)) x := by
  have hl0 := hk.1
  have hl1 := hk.2.1
  have hb : qm_rb tb c r < qc_d c := by unfold qm_rb; omega
  have hbd : qm_rb tb c r + qt_ln tb r = qc_d c := by unfold qm_rb; omega
  intro x hx
  by_cases hxn : x = qc_n c
  · subst hxn
    refine ⟨?_, ?_⟩
    · intro k hk'
      rw [qr_R1] at hk'
      rw [qr_cp1 J hb k (by omega), qr_C1, qr_F1, qr_L1, qr_B1, ← qm_ped hb, ← qm_bed hb]
      have hd : qm_rb tb c r + k < qc_d c := by omega
      have a1 := qj_le hv J (e := qm_rb tb c r) (f := qm_rb tb c r + k) (by omega) (by omega)
      have a2 := qj_le hv J (e := qm_rb tb c r + k) (f := qc_d c) (by omega) (by omega)
      rw [qm_peD] at a2
      have a3 := a2.2.2 hd
      rcases (J.1.2.2.2 _ hd).2.2.2.2 with g | g
      · exact Or.inl ⟨g.1, a1.1, by omega⟩
      · have hx' := qj_erN J hd g
        have g7 := g.2.2.2.2.2.2
        exact Or.inr ⟨by omega, hx', g.1⟩
    · intro h
      rw [qr_C1, Nat.add_zero] at h ⊢
      rcases (J.1.2.2.2 _ hb).2.2.2.2 with g | g
      · rw [g.1] at h; omega
      · have hx' := qj_erN J hb g
        rw [qr_S hx', qr_F hx', qr_S1, qr_F1, ← qm_ped hb]
        exact ⟨g.2.2.2.2.2.1, g.2.2.1⟩
  · have hx' : x < qc_n c := by omega
    obtain ⟨k1, k2⟩ := (J.2.1 x hx').2
    refine ⟨?_, ?_⟩
    · intro k hk'
      rw [qr_R hx'] at hk'
      rw [qr_cp J hx' k (by omega), qr_C hx', qr_F hx', qr_L hx', qr_B hx']
      exact k1 k hk'
    · intro h
      rw [qr_C hx'] at h ⊢
      have hN := (J.2.1 x hx').1.2.1
      have hlt : qc_C c x 0 < qc_n c := by
        rcases k1 0 (by omega) with g | g
        · rw [g.1] at h; omega
        · omega
      rw [qr_S hlt, qr_F hlt, qr_S hx', qr_F hx']
      exact k2 h
theorem qr_Rg {r : Nat} (hv : qm_tv tb) (hw : qm_wv W) (J : qm_J tb W c) (hk : qm_rok tb W c r) : qj_R (qm_rd tb c r (qm_la W c)) := by
  have hl0 := hk.1
  have hl1 := hk.2.1
  have hb : qm_rb tb c r < qc_d c := by unfold qm_rb; omega
  have hle := qj_le hv J (e := qm_rb tb c r) (f := qc_d c) (by omega) (Nat.le_refl _)
  rw [qm_peD, qm_beD] at hle
  have hp := hle.2.2 hb
  intro e he x h1 h2
  have he' : e < qm_rb tb c r + 1 := he
  by_cases hd : e = qm_rb tb c r
  · subst hd
    rw [qr_be hb (Nat.le_refl _)] at h1
    rw [qr_be1] at h2
    rw [qr_pe hb (Nat.le_refl _), qr_pe1]
    by_cases hxn : x = qc_n c
    · subst hxn
      rw [qr_F1, qr_L1, qm_ped hb]
      exact ⟨Nat.le_refl _, by omega⟩
    · have hx : x < qc_n c := by omega
      rw [qr_F hx, qr_L hx]
      exact qj_span hv J (by omega) h1 hx
  · rw [qr_be hb (by omega)] at h1 h2
    have hx : x < qc_n c := by
      have := qj_beN J (qc_d c - (e + 1)) (e + 1) (by omega)
      omega
    rw [qr_pe hb (by omega), qr_pe hb (by omega), qr_F hx, qr_L hx]
    exact J.2.2.1 e (by omega) x h1 h2
theorem qr_Bd {r : Nat} (hv : qm_tv tb) (hw : qm_wv W) (J : qm_J tb W c) (hk : qm_rok tb W c r) : qj_B (qm_rd tb c r (qm_la W c)) := by
  have hl0 := hk.1
  have hl1 := hk.2.1
  have hb : qm_rb tb c r < qc_d c := by unfold qm_rb; omega
  intro x hx y h1 h2
  have hx1 : x < qc_n c + 1 := hx
  by_cases hxn : x = qc_n c
  · subst hxn
    by_cases hy : y = qc_n c
    · subst hy; exact ⟨Nat.le_refl _, Nat.le_refl _⟩
    · have hy' : y < qc_n c := by omega
      rw [qr_B1, ← qm_bed hb] at h1
      rw [qr_F1, qr_L1, qr_F hy', qr_L hy', ← qm_ped hb]
      obtain ⟨a1, a2⟩ := qj_span hv J (by omega) h1 hy'
      exact ⟨a1, by omega⟩
  · have hx' : x < qc_n c := by omega
    have hy' : y < qc_n c := by omega
    rw [qr_B hx'] at h1
    rw [qr_F hx', qr_L hx', qr_F hy', qr_L hy']
    exact J.2.2.2.1 x hx' y h1 h2
theorem qr_Pd {r : Nat} (hv : qm_tv tb) (hw : qm_wv W) (hr : r < 12) (J : qm_J tb W c) (hk : qm_rok tb W c r) : qj_P tb (qm_rd tb c r (qm_la W c)) := by
  have hl0 := hk.1
  have hl1 := hk.2.1
  have hb : qm_rb tb c r < qc_d c := by unfold qm_rb; omega
  intro x y hyx hx hF
  have hx1 : x < qc_n c + 1 := hx
  by_cases hxn : x = qc_n c
  · subst hxn
    rw [qr_F hyx, qr_F1, ← qm_ped hb] at hF
    rw [qr_C1, Nat.add_zero, qr_B1, ← qm_bed hb, qr_L hyx, qr_L1, qr_R1, qr_R hyx]
    obtain ⟨f, _, f2, f3, f4⟩ := qj_in' J (x := y) (e := 0) (Nat.zero_le _) (by rw [J.1.2.2.1]; exact Nat.zero_le _) hyx
    obtain ⟨s1, s2⟩ := J.2.2.1 f f2 y f3 f4
    have hFL := (J.2.1 y hyx).1.2.2.1
    have hf : f = qm_rb tb c r := by
      rcases Nat.lt_trichotomy f (qm_rb tb c r) with h | h | h
      · have a := (qj_le hv J (e := f + 1) (f := qm_rb tb c r) (by omega) (by omega)).1
        omega
      · exact h
      · have a := (qj_le hv J (e := qm_rb tb c r) (f := f) (by omega) (by omega)).2.2 h
        omega
    subst hf
    rcases (J.1.2.2.2 _ hb).2.2.2.2 with g | g
    · have := g.2.2; omega
    · have hj := qj_erN J hb g
      refine ⟨g.1, ?_, f3, ?_⟩
      · have := g.2.1; omega
      · intro hL
        have hlen : qt_ln tb r = 1 := by
          by_cases h1 : qm_rb tb c r + 1 = qc_d c
          · unfold qm_rb at h1; omega
          · have a := (qj_le hv J (e := qm_rb tb c r + 1) (f := qc_d c) (by omega) (by omega)).2.2 (by omega)
            rw [qm_peD] at a
            omega
        have hu := qr_unit hv hr J hk hlen g
        have hbd1 : qm_rb tb c r + 1 = qc_d c := by unfold qm_rb; omega
        have g4 := g.2.2.2.1
        rw [hbd1, qm_peD] at g4
        by_cases hy : y = qc_er c (qm_rb tb c r)
        · rw [hy]; exact hu
        · have g2 := g.2.1
          have h5 := J.2.2.2.2 (qc_er c (qm_rb tb c r)) y (by omega) hj (by rw [hF, g.2.2.1])
          have := h5.2.2.2 (by omega)
          omega
  · have hx' : x < qc_n c := by omega
    have hy' : y < qc_n c := by omega
    rw [qr_F hx', qr_F hy'] at hF
    rw [qr_C hx', qr_B hx', qr_L hx', qr_L hy', qr_R hx', qr_R hy']
    exact J.2.2.2.2 x y hyx hx' hF
theorem qr_J {r : Nat} (hv : qm_tv tb) (hw : qm_wv W) (hr : r < 12) (J : qm_J tb W c) (hk : qm_rok tb W c r) : qm_J tb W (qm_rd tb c r (qm_la W c)) :=
  ⟨qr_E hv hw hr J hk, fun x hx => ⟨qr_N hv hw hr J hk x hx, qr_Kd hv hw hr J hk x hx⟩, qr_Rg hv hw J hk, qr_Bd hv hw J hk, qr_Pd hv hw hr J hk⟩
theorem qm_J1 (hv : qm_tv tb) (hw : qm_wv W) (J : qm_J tb W c) (hg : qm_go tb W c) : qm_J tb W (qm_nx tb W c) := by
  unfold qm_nx
  by_cases h : qm_act tb W c ≤ 15
  · rw [if_pos h]; exact qs_J hv hw J hg.1 h
  · rw [if_neg h]
    rcases qm_actv hv hw J with g | g | g
    · omega
    · exact absurd g hg.2.1
    · exact qr_J hv hw (by omega) J (hg.2.2 (by omega))
end
section
variable {tb : qm_T} {W : qm_W}
theorem qm_Jk (hv : qm_tv tb) (hw : qm_wv W) : ∀ k, qm_goes tb W k → qm_J tb W (qm_run tb W k) := by
  intro k
  induction k with
  | zero => intro _; exact qj_0 tb W
  | succ k ih => intro h; exact qm_J1 hv hw (ih (fun j hj => h j (by omega))) (h k (Nat.lt_succ_self _))
theorem qm_nx_cases (c : qm_C) : (qm_act tb W c ≤ 15 ∧ qm_nx tb W c = qm_sh c (qm_act tb W c)) ∨ (¬ qm_act tb W c ≤ 15 ∧ qm_nx tb W c = qm_rd tb c (qm_act tb W c - 32) (qm_la W c)) := by
  unfold qm_nx
  by_cases h : qm_act tb W c ≤ 15
  · exact Or.inl ⟨h, if_pos h⟩
  · exact Or.inr ⟨h, if_neg h⟩
theorem qm_tk : ∀ k, qc_p (qm_run tb W k) + qc_n (qm_run tb W k) = k := by
  intro k
  induction k with
  | zero => rfl
  | succ k ih =>
    show qc_p (qm_nx tb W (qm_run tb W k)) + qc_n (qm_nx tb W (qm_run tb W k)) = k + 1
    rcases qm_nx_cases (tb := tb) (W := W) (qm_run tb W k) with ⟨_, h⟩ | ⟨_, h⟩
    · rw [h]; show qc_p (qm_run tb W k) + 1 + qc_n (qm_run tb W k) = k + 1; omega
    · rw [h]; show qc_p (qm_run tb W k) + (qc_n (qm_run tb W k) + 1) = k + 1; omega
theorem qm_k140 (hv : qm_tv tb) (hw : qm_wv W) {k : Nat} (h : qm_goes tb W k) : k ≤ 140 := by
  obtain ⟨_, _, a, b, _⟩ := qj_cnt hv hw (qm_Jk hv hw k h)
  have := qm_tk (tb := tb) (W := W) k
  omega
theorem qm_halt (hv : qm_tv tb) (hw : qm_wv W) : ∃ k, k ≤ 140 ∧ qm_goes tb W k ∧ ¬ qm_go tb W (qm_run tb W k) := by
  have H : ∀ j k, k + j = 141 → qm_goes tb W k → ∃ k, k ≤ 140 ∧ qm_goes tb W k ∧ ¬ qm_go tb W (qm_run tb W k) := by
    intro j
    induction j with
    | zero => intro k hk hg; have := qm_k140 hv hw hg; omega
    | succ j ih =>
      intro k hk hg
      by_cases h : qm_go tb W (qm_run tb W k)
      · refine ih (k + 1) (by omega) ?_
        intro i hi
        by_cases hik : i = k
        · rw [hik]; exact h
        · exact hg i (by omega)
      · exact ⟨k, by omega, hg, h⟩
  exact H 141 0 (by omega) (fun j hj => absurd hj (Nat.not_lt_zero _))
/-- nodes stay as they are made -/
theorem qm_keep1 (c : qm_C) {x : Nat} (hx : x < qc_n c) : qc_n c ≤ qc_n (qm_nx tb W c) ∧ qc_R (qm_nx tb W c) x = qc_R c x ∧ qc_F (qm_nx tb W c) x = qc_F c x ∧ qc_L (qm_nx tb W c) x = qc_L c x ∧ qc_S (qm_nx tb W c) x = qc_S c x ∧ qc_K (qm_nx tb W c) x = qc_K c x ∧ qc_B (qm_nx tb W c) x = qc_B c x ∧ qc_C (qm_nx tb W c) x = qc_C c x := by
  rcases qm_nx_cases (tb := tb) (W := W) c with ⟨_, h⟩ | ⟨_, h⟩
  · rw [h]; exact ⟨Nat.le_refl _, rfl, rfl, rfl, rfl, rfl, rfl, rfl⟩
  · rw [h]; exact ⟨Nat.le_succ _, qr_R hx, qr_F hx, qr_L hx, qr_S hx, qr_K hx, qr_B hx, funext fun k => qr_C hx⟩
def qm_same (c g : qm_C) (n : Nat) : Prop := ∀ x, x < n → qc_R g x = qc_R c x ∧ qc_F g x = qc_F c x ∧ qc_L g x = qc_L c x ∧ qc_S g x = qc_S c x ∧ qc_K g x = qc_K c x ∧ qc_B g x = qc_B c x ∧ qc_C g x = qc_C c x
theorem qm_keep (k : Nat) : ∀ j, qc_n (qm_run tb W k) ≤ qc_n (qm_run tb W (k + j)) ∧ qc_p (qm_run tb W k) ≤ qc_p (qm_run tb W (k + j)) ∧ qm_same (qm_run tb W k) (qm_run tb W (k + j)) (qc_n (qm_run tb W k)) := by
  intro j
  induction j with
  | zero => exact ⟨Nat.le_refl _, Nat.le_refl _, fun x _ => ⟨rfl, rfl, rfl, rfl, rfl, rfl, rfl⟩⟩
  | succ j ih =>
    obtain ⟨h1, h3, h2⟩ := ih
    have hr : qm_run tb W (k + (j + 1)) = qm_nx tb W (qm_run tb W (k + j)) := rfl
    rw [hr]
    refine ⟨?_, ?_, ?_⟩
    · rcases qm_nx_cases (tb := tb) (W := W) (qm_run tb W (k + j)) with ⟨_, h⟩ | ⟨_, h⟩
      · rw [h]; exact h1
      · rw [h]; exact Nat.le_succ_of_le h1
    · rcases qm_nx_cases (tb := tb) (W := W) (qm_run tb W (k + j)) with ⟨_, h⟩ | ⟨_, h⟩
      · rw [h]; exact Nat.le_succ_of_le h3
      · rw [h]; exact h3
    · intro x hx
      obtain ⟨a1, a2, a3, a4, a5, a6, a7⟩ := h2 x hx
      obtain ⟨_, b1, b2, b3, b4, b5, b6, b7⟩ := qm_keep1 (tb := tb) (W := W) (qm_run tb W (k + j)) (x := x) (by omega)
      exact ⟨b1.trans a1, b2.trans a2, b3.trans a3, b4.trans a4, b5.trans a5, b6.trans a6, b7.trans a7⟩
end
end
section
section
variable {tb : qm_T} {W : qm_W}
/-- when an entry was begun -/
def qh_e (tb : qm_T) (W : qm_W) (k : Nat) (c : qm_C) (e : Nat) : Prop := qc_ef c e + qc_eb c e < k ∧ qc_d (qm_run tb W (qc_ef c e + qc_eb c e)) = e ∧ qc_p (qm_run tb W (qc_ef c e + qc_eb c e)) = qc_ef c e ∧ qc_n (qm_run tb W (qc_ef c e + qc_eb c e)) = qc_eb c e ∧ qm_top (qm_run tb W (qc_ef c e + qc_eb c e)) = qm_sb c e ∧ ∀ t', qc_ef c e + qc_eb c e < t' → t' ≤ k → e < qc_d (qm_run tb W t')
/-- when a node was begun and made -/
def qh_n (tb : qm_T) (W : qm_W) (k : Nat) (c : qm_C) (x : Nat) : Prop := qc_F c x + qc_B c x < qc_L c x + x + 2 ∧ qc_L c x + x + 2 ≤ k ∧ qc_p (qm_run tb W (qc_F c x + qc_B c x)) = qc_F c x ∧ qc_n (qm_run tb W (qc_F c x + qc_B c x)) = qc_B c x ∧ qm_top (qm_run tb W (qc_F c x + qc_B c x)) = qc_S c x ∧ (∀ t', qc_F c x + qc_B c x < t' → t' ≤ qc_L c x + x + 2 → qc_d (qm_run tb W (qc_F c x + qc_B c x)) < qc_d (qm_run tb W t')) ∧ qc_d (qm_run tb W (qc_L c x + x + 2)) = qc_d (qm_run tb W (qc_F c x + qc_B c x)) + 1 ∧ qc_p (qm_run tb W (qc_L c x + x + 2)) = qc_L c x + 1 ∧ qc_n (qm_run tb W (qc_L c x + x + 2)) = x + 1 ∧ qc_er (qm_run tb W (qc_L c x + x + 2)) (qc_d (qm_run tb W (qc_F c x + qc_B c x))) = x
theorem qh_sh_e {k e a : Nat} {c : qm_C} (hc : c = qm_run tb W k) (hr : qm_run tb W (k + 1) = qm_sh c a) (ih : ∀ e, e < qc_d c → qh_e tb W k c e) (he : e < qc_d (qm_sh c a)) : qh_e tb W (k + 1) (qm_sh c a) e := by
  have he' : e < qc_d c + 1 := he
  by_cases hd : e = qc_d c
  · subst hd
    have e1 : qc_ef (qm_sh c a) (qc_d c) = qc_p c := qm_us _ _ _
    have e2 : qc_eb (qm_sh c a) (qc_d c) = qc_n c := qm_us _ _ _
    unfold qh_e
    rw [e1, e2]
    have ht : qc_p c + qc_n c = k := by rw [hc]; exact qm_tk k
    rw [ht, ← hc]
    refine ⟨Nat.lt_succ_self _, rfl, rfl, rfl, (qs_sb (Nat.le_refl _)).symm, ?_⟩
    intro t' h1 h2
    rw [show t' = k + 1 by omega, hr]
    exact Nat.lt_succ_self _
  · have hl : e < qc_d c := by omega
    have e1 : qc_ef (qm_sh c a) e = qc_ef c e := qm_un hd
    have e2 : qc_eb (qm_sh c a) e = qc_eb c e := qm_un hd
    unfold qh_e
    rw [e1, e2, qs_sb (by omega)]
    obtain ⟨g1, g2, g3, g4, g5, g6⟩ := ih e hl
    refine ⟨by omega, g2, g3, g4, g5, ?_⟩
    intro t' h1 h2
    by_cases h : t' = k + 1
    · rw [h, hr]; exact he
    · exact g6 t' h1 (by omega)
theorem qh_rd_e {k e r la : Nat} {c : qm_C} (hb : qm_rb tb c r < qc_d c) (hr : qm_run tb W (k + 1) = qm_rd tb c r la) (ih : ∀ e, e < qc_d c → qh_e tb W k c e) (he : e < qc_d (qm_rd tb c r la)) : qh_e tb W (k + 1) (qm_rd tb c r la) e := by
  have he' : e < qm_rb tb c r + 1 := he
  have hl : e < qc_d c := by omega
  have e1 : qc_ef (qm_rd tb c r la) e = qc_ef c e := rfl
  have e2 : qc_eb (qm_rd tb c r la) e = qc_eb c e := rfl
  unfold qh_e
  rw [e1, e2, qr_sb (by omega)]
  obtain ⟨g1, g2, g3, g4, g5, g6⟩ := ih e hl
  refine ⟨by omega, g2, g3, g4, g5, ?_⟩
  intro t' h1 h2
  by_cases h : t' = k + 1
  · rw [h, hr]; exact he
  · exact g6 t' h1 (by omega)
theorem qh_keep {k x : Nat} {c g : qm_C} (h : qh_n tb W k c x) (hF : qc_F g x = qc_F c x) (hB : qc_B g x = qc_B c x) (hL : qc_L g x = qc_L c x) (hS : qc_S g x = qc_S c x) : qh_n tb W (k + 1) g x := by
  unfold qh_n
  rw [hF, hB, hL, hS]
  obtain ⟨h1, h2, h3⟩ := h
  exact ⟨h1, by omega, h3⟩
theorem qh_all (hv : qm_tv tb) (hw : qm_wv W) : ∀ k, qm_goes tb W k → (∀ e, e < qc_d (qm_run tb W k) → qh_e tb W k (qm_run tb W k) e) ∧ (∀ x, x < qc_n (qm_run tb W k) → qh_n tb W k (qm_run tb W k) x) := by
  intro k
  induction k with
  | zero => intro _; exact ⟨fun e he => absurd he (Nat.not_lt_zero _), fun e he => absurd he (Nat.not_lt_zero _)⟩
  | succ k ih =>
    intro hg
    have hgk : qm_goes tb W k := fun j hj => hg j (by omega)
    obtain ⟨ihe, ihn⟩ := ih hgk
    have J := qm_Jk hv hw k hgk
    have hgo := hg k (Nat.lt_succ_self _)
    have hrun : qm_run tb W (k + 1) = qm_nx tb W (qm_run tb W k) := rfl
    have ht := qm_tk (tb := tb) (W := W) k
    generalize hc : qm_run tb W k = c at *
    rcases qm_nx_cases (tb := tb) (W := W) c with ⟨h15, h⟩ | ⟨h15, h⟩
    · have hr : qm_run tb W (k + 1) = qm_sh c (qm_act tb W c) := hrun.trans h
      refine ⟨?_, ?_⟩
      · intro e he
        rw [hr] at he ⊢
        exact qh_sh_e hc.symm hr ihe he
      · intro x hx
        rw [hr] at hx ⊢
        exact qh_keep (ihn x hx) rfl rfl rfl rfl
    · have hr : qm_run tb W (k + 1) = qm_rd tb c (qm_act tb W c - 32) (qm_la W c) := hrun.trans h
      have hk := hgo.2.2 (by have := hgo.2.1; omega)
      have hb : qm_rb tb c (qm_act tb W c - 32) < qc_d c := by
        have := hk.1; have := hk.2.1; unfold qm_rb; omega
      have hE : ∀ e, e < qc_d (qm_run tb W (k + 1)) → qh_e tb W (k + 1) (qm_run tb W (k + 1)) e := by
        intro e he
        rw [hr] at he ⊢
        exact qh_rd_e hb hr ihe he
      refine ⟨hE, ?_⟩
      intro x hx
      by_cases hxn : x = qc_n c
      · subst hxn
        have hbe := ihe _ hb
        have hp := (qj_le hv J (e := qm_rb tb c (qm_act tb W c - 32)) (f := qc_d c) (by omega) (by omega)).2.2 hb
        rw [qm_peD] at hp
        rw [hr]
        unfold qh_n
        rw [qr_F1, qr_B1, qr_L1, qr_S1]
        rw [show qc_p c - 1 + qc_n c + 2 = k + 1 by omega, hr]
        obtain ⟨g1, g2, g3, g4, g5, g6⟩ := hbe
        rw [g2]
        refine ⟨by omega, Nat.le_refl _, g3, g4, g5, ?_, rfl, ?_, rfl, qr_er1⟩
        · intro t' h1 h2
          by_cases h : t' = k + 1
          · rw [h, hr]; exact Nat.lt_succ_self _
          · exact g6 t' h1 (by omega)
        · show qc_p c = qc_p c - 1 + 1; omega
      · have hx' : x < qc_n c := by
          rw [hr] at hx
          have : x < qc_n c + 1 := hx
          omega
        rw [hr]
        exact qh_keep (ihn x hx') (qr_F hx') (qr_B hx') (qr_L hx') (qr_S hx')
end
/-! two runs that agree above a base -/
def qf_of (a0 a1 a b : Nat) : Prop := a0 ≤ a ∧ a + a1 = b + a0
def qf_rf (p0 p1 n0 n1 a b : Nat) : Prop := (256 ≤ a ∧ 256 ≤ b ∧ p0 + 256 ≤ a ∧ a + p1 = b + p0) ∨ (a < 256 ∧ b < 256 ∧ n0 ≤ a ∧ a + n1 = b + n0)
def qf_node (tb : qm_T) (p0 p1 n0 n1 : Nat) (h g : qm_C) (x y : Nat) : Prop := qc_R g y = qc_R h x ∧ qc_S g y = qc_S h x ∧ qc_K g y = qc_K h x ∧ qf_of p0 p1 (qc_F h x) (qc_F g y) ∧ qf_of p0 p1 (qc_L h x) (qc_L g y) ∧ qf_of n0 n1 (qc_B h x) (qc_B g y) ∧ ∀ i, i < qt_ln tb (qc_R h x) → qf_rf p0 p1 n0 n1 (qc_C h x i) (qc_C g y i)
def qf_ent (p0 p1 n0 n1 : Nat) (h g : qm_C) (e f : Nat) : Prop := qc_es g f = qc_es h e ∧ qf_rf p0 p1 n0 n1 (qc_er h e) (qc_er g f) ∧ qf_of p0 p1 (qc_ef h e) (qc_ef g f) ∧ qf_of n0 n1 (qc_eb h e) (qc_eb g f)
def qf_low (c g : qm_C) (b : Nat) : Prop := ∀ e, e < b → qc_er g e = qc_er c e ∧ qc_es g e = qc_es c e ∧ qc_ef g e = qc_ef c e ∧ qc_eb g e = qc_eb c e
def qf_num (b0 b1 p0 p1 n0 n1 : Nat) (h g : qm_C) : Prop := qf_of b0 b1 (qc_d h) (qc_d g) ∧ qf_of p0 p1 (qc_p h) (qc_p g) ∧ qf_of n0 n1 (qc_n h) (qc_n g)
def qf_Fr (tb : qm_T) (b0 b1 p0 p1 n0 n1 s : Nat) (c1 h g : qm_C) : Prop := qf_num b0 b1 p0 p1 n0 n1 h g ∧ (∀ e, b0 ≤ e → e < qc_d h → ∀ f, f + b0 = e + b1 → qf_ent p0 p1 n0 n1 h g e f) ∧ qm_sb h b0 = s ∧ qm_sb g b1 = s ∧ (∀ x, n0 ≤ x → x < qc_n h → ∀ y, y + n0 = x + n1 → qf_node tb p0 p1 n0 n1 h g x y) ∧ qf_low c1 g b1
section
variable {tb : qm_T} {W0 W : qm_W} {b0 b1 p0 p1 n0 n1 s : Nat} {c1 h g : qm_C}
theorem qf_sb (H : qf_Fr tb b0 b1 p0 p1 n0 n1 s c1 h g) {e f : Nat} (h1 : b0 ≤ e) (h2 : e ≤ qc_d h) (h3 : f + b0 = e + b1) : qm_sb g f = qm_sb h e := by
  by_cases he : e = b0
  · have hf : f = b1 := by omega
    rw [he, hf, H.2.2.1, H.2.2.2.1]
  · have := (H.2.1 (e - 1) (by omega) (by omega) (f - 1) (by omega)).1
    unfold qm_sb
    rw [if_neg (by omega), if_neg (by omega)]
    exact this
theorem qf_sy (J : qm_J tb W0 h) (H : qf_Fr tb b0 b1 p0 p1 n0 n1 s c1 h g) (hT : ∀ q, p0 ≤ q → q < qc_p h → ∀ q', q' + p0 = q + p1 → W.1 q' = W0.1 q) (hv : qm_tv tb) {e f : Nat} (h1 : b0 ≤ e) (h2 : e < qc_d h) (h3 : f + b0 = e + b1) : qm_sy tb W g f = qm_sy tb W0 h e := by
  have hE := (H.2.1 e h1 h2 f h3).2.1
  unfold qm_sy
  rcases hE with ⟨a1, a2, a3, a4⟩ | ⟨a1, a2, a3, a4⟩
  · rw [if_neg (by omega), if_neg (by omega)]
    refine hT _ (by omega) ?_ _ (by omega)
    rcases (J.1.2.2.2 e h2).2.2.2.2 with k | k
    · have hp := (qj_le hv J (e := e) (f := qc_d h) (by omega) (by omega)).2.2 h2
      rw [qm_peD] at hp
      have := k.1
      omega
    · have := k.1; omega
  · rw [if_pos a1, if_pos a2]
    have hn : qc_er h e < qc_n h := by
      rcases (J.1.2.2.2 e h2).2.2.2.2 with k | k
      · have := k.1; omega
      · exact qj_erN J h2 k
    rw [(H.2.2.2.2.1 _ a3 hn _ (a4.symm)).1]
theorem qf_step (hv : qm_tv tb) (hw0 : qm_wv W0) (hw : qm_wv W) (J : qm_J tb W0 h) (Jg : qm_J tb W g) (H : qf_Fr tb b0 b1 p0 p1 n0 n1 s c1 h g) (hg : qm_go tb W0 h) (hd : b0 < qc_d (qm_nx tb W0 h)) (hT : ∀ q, p0 ≤ q → q < qc_p h → ∀ q', q' + p0 = q + p1 → W.1 q' = W0.1 q) (hla : qm_la W g = qm_la W0 h) : qm_go tb W g ∧ qf_Fr tb b0 b1 p0 p1 n0 n1 s c1 (qm_nx tb W0 h) (qm_nx tb W g) := by
  have Hn := H.1
  obtain ⟨⟨d1, d2⟩, ⟨q1, q2⟩, ⟨m1, m2⟩⟩ := Hn
  have htop : qm_top g = qm_top h := qf_sb H d1 (Nat.le_refl _) d2.symm
  have hact : qm_act tb W g = qm_act tb W0 h := by unfold qm_act; rw [htop, hla]
  have hsy := fun e f => qf_sy (e := e) (f := f) J H hT hv
  have hsb := fun e f => qf_sb (e := e) (f := f) H
  obtain ⟨H1, H2, H3, H4, H5, H6⟩ := H
  rcases qm_nx_cases (tb := tb) (W := W0) h with ⟨h15, hn⟩ | ⟨h15, hn⟩
  · have hn' : qm_nx tb W g = qm_sh g (qm_act tb W0 h) := by
      unfold qm_nx; rw [hact, if_pos h15]
    refine ⟨⟨by rw [hact]; exact hg.1, by rw [hact]; exact hg.2.1, fun z => by rw [hact] at z; omega⟩, ?_⟩
    rw [hn, hn']
    refine ⟨⟨⟨?_, ?_⟩, ⟨?_, ?_⟩, ⟨m1, m2⟩⟩, ?_, ?_, ?_, H5, ?_⟩
    · show b0 ≤ qc_d h + 1; omega
    · show qc_d h + 1 + b1 = qc_d g + 1 + b0; omega
    · show p0 ≤ qc_p h + 1; omega
    · show qc_p h + 1 + p1 = qc_p g + 1 + p0; omega
    · intro e e1 e2 f e3
      have e2' : e < qc_d h + 1 := e2
      by_cases he : e = qc_d h
      · have hf : f = qc_d g := by omega
        rw [he, hf]
        unfold qf_ent
        rw [qs_es1, qs_es1, qs_er1, qs_er1]
        have a1 : qc_ef (qm_sh h (qm_act tb W0 h)) (qc_d h) = qc_p h := qm_us _ _ _
        have a2 : qc_ef (qm_sh g (qm_act tb W0 h)) (qc_d g) = qc_p g := qm_us _ _ _
        have a3 : qc_eb (qm_sh h (qm_act tb W0 h)) (qc_d h) = qc_n h := qm_us _ _ _
        have a4 : qc_eb (qm_sh g (qm_act tb W0 h)) (qc_d g) = qc_n g := qm_us _ _ _
        rw [a1, a2, a3, a4]
        exact ⟨rfl, Or.inl ⟨by omega, by omega, by omega, by omega⟩, ⟨q1, q2⟩, ⟨m1, m2⟩⟩
      · have hl : e < qc_d h := by omega
        have hl' : f < qc_d g := by omega
        unfold qf_ent
        rw [qs_es hl, qs_es hl', qs_er hl, qs_er hl']
        have a1 : qc_ef (qm_sh h (qm_act tb W0 h)) e = qc_ef h e := qm_un he
        have a2 : qc_ef (qm_sh g (qm_act tb W0 h)) f = qc_ef g f := qm_un (by omega)
        have a3 : qc_eb (qm_sh h (qm_act tb W0 h)) e = qc_eb h e := qm_un he
        have a4 : qc_eb (qm_sh g (qm_act tb W0 h)) f = qc_eb g f := qm_un (by omega)
        rw [a1, a2, a3, a4]
        exact H2 e e1 hl f e3
    · rw [qs_sb d1]; exact H3
    · rw [qs_sb (by omega)]; exact H4
    · intro e he
      have hl' : e < qc_d g := by omega
      have a2 : qc_ef (qm_sh g (qm_act tb W0 h)) e = qc_ef g e := qm_un (by omega)
      have a4 : qc_eb (qm_sh g (qm_act tb W0 h)) e = qc_eb g e := qm_un (by omega)
      rw [qs_er hl', qs_es hl', a2, a4]
      exact H6 e he
  · have hn' : qm_nx tb W g = qm_rd tb g (qm_act tb W0 h - 32) (qm_la W0 h) := by
      unfold qm_nx; rw [hact, if_neg h15, hla]
    have hk := hg.2.2 (by have := hg.2.1; omega)
    rw [hn] at hd
    have hd' : b0 < qm_rb tb h (qm_act tb W0 h - 32) + 1 := hd
    obtain ⟨k1, k2, k3, k4⟩ := hk
    generalize hr : qm_act tb W0 h - 32 = r at *
    have hb : qm_rb tb h r < qc_d h := by unfold qm_rb; omega
    have hbd : qm_rb tb h r + qt_ln tb r = qc_d h := by unfold qm_rb; omega
    have hbg : qm_rb tb g r + b0 = qm_rb tb h r + b1 := by unfold qm_rb at hbd hd' ⊢; omega
    have hbg' : qm_rb tb g r < qc_d g := by omega
    have hpp : p0 < qc_p h := by
      have a := (qj_le hv J (e := qm_rb tb h r) (f := qc_d h) (by omega) (by omega)).2.2 hb
      rw [qm_peD, qm_ped hb] at a
      have := (H2 _ (by omega) hb _ hbg).2.2.1.1
      omega
    have hnn := (qj_cnt hv hw0 J).2.2.2.1
    have hng := (qj_cnt hv hw Jg).2.2.2.1
    have hsbb := hsb (qm_rb tb h r) (qm_rb tb g r) (by omega) (by omega) hbg
    refine ⟨⟨by rw [hact]; exact hg.1, by rw [hact]; exact hg.2.1, fun _ => ?_⟩, ?_⟩
    · rw [hact, hr]
      refine ⟨k1, by omega, ?_, ?_⟩
      · intro i hi
        rw [hsy (qm_rb tb h r + i) (qm_rb tb g r + i) (by omega) (by omega) (by omega)]
        exact k3 i hi
      · rw [hsbb]
        exact k4
    · rw [hn, hn']
      refine ⟨⟨⟨?_, ?_⟩, ⟨q1, q2⟩, ⟨?_, ?_⟩⟩, ?_, ?_, ?_, ?_, ?_⟩
      · show b0 ≤ qm_rb tb h r + 1; omega
      · show qm_rb tb h r + 1 + b1 = qm_rb tb g r + 1 + b0; omega
      · show n0 ≤ qc_n h + 1; omega
      · show qc_n h + 1 + n1 = qc_n g + 1 + n0; omega
      · intro e e1 e2 f e3
        have e2' : e < qm_rb tb h r + 1 := e2
        have x1 : qc_ef (qm_rd tb h r (qm_la W0 h)) e = qc_ef h e := rfl
        have x2 : qc_ef (qm_rd tb g r (qm_la W0 h)) f = qc_ef g f := rfl
        have x3 : qc_eb (qm_rd tb h r (qm_la W0 h)) e = qc_eb h e := rfl
        have x4 : qc_eb (qm_rd tb g r (qm_la W0 h)) f = qc_eb g f := rfl
        have hE := H2 e e1 (by omega) f e3
        unfold qf_ent
        rw [x1, x2, x3, x4]
        by_cases he : e = qm_rb tb h r
        · have hf : f = qm_rb tb g r := by omega
          refine ⟨?_, ?_, hE.2.2.1, hE.2.2.2⟩
          · rw [he, hf, qr_es1, qr_es1, hsbb]
          · rw [he, hf, qr_er1, qr_er1]
            exact Or.inr ⟨by omega, by omega, m1, m2⟩
        · rw [qr_es (by omega), qr_es (by omega), qr_er (by omega), qr_er (by omega)]
          exact hE
      · rw [qr_sb (by omega)]; exact H3
      · rw [qr_sb (by omega)]; exact H4
      · intro x x1 x2 y x3
        have x2' : x < qc_n h + 1 := x2
        by_cases hx : x = qc_n h
        · have hy : y = qc_n g := by omega
          have hE := H2 _ (by omega) hb _ hbg
          rw [hx, hy]
          unfold qf_node
          rw [qr_R1, qr_R1, qr_S1, qr_S1, qr_K1, qr_K1, qr_F1, qr_F1, qr_L1, qr_L1, qr_B1, qr_B1, hsbb]
          refine ⟨rfl, rfl, rfl, hE.2.2.1, ⟨by omega, by omega⟩, hE.2.2.2, ?_⟩
          intro i hi
          rw [qr_C1, qr_C1]
          exact (H2 (qm_rb tb h r + i) (by omega) (by omega) (qm_rb tb g r + i) (by omega)).2.1
        · have hx' : x < qc_n h := by omega
          have hy' : y < qc_n g := by omega
          unfold qf_node
          rw [qr_R hx', qr_R hy', qr_S hx', qr_S hy', qr_K hx', qr_K hy', qr_F hx', qr_F hy', qr_L hx', qr_L hy', qr_B hx', qr_B hy']
          obtain ⟨y1, y2, y3, y4, y5, y6, y7⟩ := H5 x x1 hx' y x3
          refine ⟨y1, y2, y3, y4, y5, y6, ?_⟩
          intro i hi
          rw [qr_C hx', qr_C hy']
          exact y7 i hi
      · intro e he
        have x2 : qc_ef (qm_rd tb g r (qm_la W0 h)) e = qc_ef g e := rfl
        have x4 : qc_eb (qm_rd tb g r (qm_la W0 h)) e = qc_eb g e := rfl
        rw [qr_er (by omega), qr_es (by omega), x2, x4]
        exact H6 e he
end
end
section
section
variable {tb : qm_T} {W0 W : qm_W}
theorem qm_goes1 {k : Nat} (h : qm_goes tb W k) (hk : qm_go tb W (qm_run tb W k)) : qm_goes tb W (k + 1) := by
  intro j hj
  by_cases hjk : j = k
  · rw [hjk]; exact hk
  · exact h j (by omega)
theorem qm_goesLe {k j : Nat} (h : qm_goes tb W k) (hj : j ≤ k) : qm_goes tb W j := fun i hi => h i (by omega)
/-- an old node whose tokens and follower are still there is made again, step by step -/
theorem qf_main (hv : qm_tv tb) (hw0 : qm_wv W0) (hw : qm_wv W) {K0 z k : Nat} (hG0 : qm_goes tb W0 K0) (hz : z < qc_n (qm_run tb W0 K0)) (hG : qm_goes tb W k)
    (htop : qm_top (qm_run tb W k) = qc_S (qm_run tb W0 K0) z)
    (hT : ∀ q, qc_F (qm_run tb W0 K0) z ≤ q → q ≤ qc_L (qm_run tb W0 K0) z → ∀ q', q' + qc_F (qm_run tb W0 K0) z = q + qc_p (qm_run tb W k) → q' < W.2 ∧ W.1 q' = W0.1 q)
    (hfit : ∀ q', q' + qc_F (qm_run tb W0 K0) z = qc_L (qm_run tb W0 K0) z + 1 + qc_p (qm_run tb W k) → qm_sym W q' = qc_K (qm_run tb W0 K0) z) :
    ∃ k', k < k' ∧ qm_goes tb W k' ∧ qc_d (qm_run tb W k') = qc_d (qm_run tb W k) + 1 ∧ qc_p (qm_run tb W k') + qc_F (qm_run tb W0 K0) z = qc_p (qm_run tb W k) + qc_L (qm_run tb W0 K0) z + 1 ∧ qc_n (qm_run tb W k') + qc_B (qm_run tb W0 K0) z = qc_n (qm_run tb W k) + z + 1 ∧ qc_er (qm_run tb W k') (qc_d (qm_run tb W k)) + 1 = qc_n (qm_run tb W k') ∧ qc_ef (qm_run tb W k') (qc_d (qm_run tb W k)) = qc_p (qm_run tb W k) ∧ qc_eb (qm_run tb W k') (qc_d (qm_run tb W k)) = qc_n (qm_run tb W k) ∧ qf_low (qm_run tb W k) (qm_run tb W k') (qc_d (qm_run tb W k)) ∧ ∀ x, qc_B (qm_run tb W0 K0) z ≤ x → x ≤ z → ∀ y, y + qc_B (qm_run tb W0 K0) z = x + qc_n (qm_run tb W k) → qf_node tb (qc_F (qm_run tb W0 K0) z) (qc_p (qm_run tb W k)) (qc_B (qm_run tb W0 K0) z) (qc_n (qm_run tb W k)) (qm_run tb W0 K0) (qm_run tb W k') x y := by
  have J0 := qm_Jk hv hw0 K0 hG0
  obtain ⟨t1, t2, t3, t4, t5, t6, t7, t8, t9, t10⟩ := (qh_all hv hw0 K0 hG0).2 z hz
  have hNz := (J0.2.1 z hz).1
  have hsame0 : ∀ t, t ≤ K0 → qm_same (qm_run tb W0 t) (qm_run tb W0 K0) (qc_n (qm_run tb W0 t)) := by
    intro t ht
    have := (qm_keep (tb := tb) (W := W0) t (K0 - t)).2.2
    rw [show t + (K0 - t) = K0 by omega] at this
    exact this
  have hp0 : qc_p (qm_run tb W0 K0) ≤ W0.2 := J0.1.1
  generalize hF : qc_F (qm_run tb W0 K0) z = Fz at *
  generalize hB : qc_B (qm_run tb W0 K0) z = Bz at *
  generalize hL : qc_L (qm_run tb W0 K0) z = Lz at *
  have hmain : ∀ j, Fz + Bz + j ≤ Lz + z + 2 → qm_goes tb W (k + j) ∧ qf_Fr tb (qc_d (qm_run tb W0 (Fz + Bz))) (qc_d (qm_run tb W k)) Fz (qc_p (qm_run tb W k)) Bz (qc_n (qm_run tb W k)) (qc_S (qm_run tb W0 K0) z) (qm_run tb W k) (qm_run tb W0 (Fz + Bz + j)) (qm_run tb W (k + j)) := by
    intro j
    induction j with
    | zero =>
      intro _
      refine ⟨hG, ⟨⟨?_, ?_⟩, ⟨?_, ?_⟩, ⟨?_, ?_⟩⟩, ?_, t5, htop, ?_, ?_⟩
      · exact Nat.le_refl _
      · exact Nat.add_comm _ _
      · exact Nat.le_of_eq t3.symm
      · show qc_p (qm_run tb W0 (Fz + Bz)) + _ = _; rw [t3]; exact Nat.add_comm _ _
      · exact Nat.le_of_eq t4.symm
      · show qc_n (qm_run tb W0 (Fz + Bz)) + _ = _; rw [t4]; exact Nat.add_comm _ _
      · intro e e1 e2; exact absurd e2 (Nat.not_lt.mpr e1)
      · intro x x1 x2; rw [show Fz + Bz + 0 = Fz + Bz from rfl, t4] at x2; omega
      · intro e _; exact ⟨rfl, rfl, rfl, rfl⟩
    | succ j ih =>
      intro hj
      obtain ⟨i1, i2⟩ := ih (by omega)
      have hgo0 := hG0 (Fz + Bz + j) (by omega)
      have Jh := qm_Jk hv hw0 (Fz + Bz + j) (qm_goesLe hG0 (by omega))
      have Jg := qm_Jk hv hw (k + j) i1
      have hdd := t6 (Fz + Bz + (j + 1)) (by omega) hj
      have hpL : qc_p (qm_run tb W0 (Fz + Bz + j)) ≤ Lz + 1 := by
        have := (qm_keep (tb := tb) (W := W0) (Fz + Bz + j) (Lz + z + 2 - (Fz + Bz + j))).2.1
        rw [show Fz + Bz + j + (Lz + z + 2 - (Fz + Bz + j)) = Lz + z + 2 by omega, t8] at this
        exact this
      have hq := i2.1.2.1
      have hla : qm_la W (qm_run tb W (k + j)) = qm_la W0 (qm_run tb W0 (Fz + Bz + j)) := by
        unfold qm_la
        by_cases he : qc_p (qm_run tb W0 (Fz + Bz + j)) = Lz + 1
        · rw [he]
          rw [hfit _ (by have := hq.2; omega)]
          rw [← hL]; exact hNz.2.2.2.2.2.1
        · have hh := hT (qc_p (qm_run tb W0 (Fz + Bz + j))) hq.1 (by omega) (qc_p (qm_run tb W (k + j))) (by have := hq.2; omega)
          unfold qm_sym
          rw [if_pos hh.1, if_pos (by have := hNz.2.2.2.1; omega), hh.2]
      have hst := qf_step hv hw0 hw Jh Jg i2 hgo0 hdd (fun q q1 q2 q' q3 => (hT q q1 (by omega) q' q3).2) hla
      exact ⟨qm_goes1 i1 hst.1, hst.2⟩
  have hend := hmain (Lz + z + 2 - (Fz + Bz)) (by omega)
  rw [show Fz + Bz + (Lz + z + 2 - (Fz + Bz)) = Lz + z + 2 by omega] at hend
  generalize hk' : k + (Lz + z + 2 - (Fz + Bz)) = k' at hend
  obtain ⟨e1, ⟨⟨a1, a2⟩, ⟨a3, a4⟩, ⟨a5, a6⟩⟩, e3, _, _, e5, e6⟩ := hend
  rw [t7] at a2
  rw [t8] at a4
  rw [t9] at a6
  have hE := e3 (qc_d (qm_run tb W0 (Fz + Bz))) (Nat.le_refl _) (by rw [t7]; exact Nat.lt_succ_self _) (qc_d (qm_run tb W k)) (Nat.add_comm _ _)
  have Jt := qm_Jk hv hw0 (Lz + z + 2) (qm_goesLe hG0 t2)
  have hnz : z < qc_n (qm_run tb W0 (Lz + z + 2)) := by rw [t9]; exact Nat.lt_succ_self _
  have hz256 : z < 256 := by have := (qj_cnt hv hw0 J0).2.2.2.1; omega
  have hsz := hsame0 (Lz + z + 2) t2
  obtain ⟨s1, s2, s3, s4, s5, s6, s7⟩ := hsz z hnz
  have hde : qc_d (qm_run tb W0 (Fz + Bz)) < qc_d (qm_run tb W0 (Lz + z + 2)) := by rw [t7]; exact Nat.lt_succ_self _
  have hJe := (Jt.1.2.2.2 _ hde).2.2.2.2
  refine ⟨k', by omega, e1, by omega, by omega, by omega, ?_, ?_, ?_, e6, ?_⟩
  · rcases hE.2.1 with ⟨r1, _⟩ | ⟨_, _, r3, r4⟩
    · rw [t10] at r1; omega
    · rw [t10] at r4; omega
  · have := hE.2.2.1.2
    rw [← qm_ped hde] at this
    rcases hJe with g | g
    · have g1 := g.1; rw [t10] at g1; omega
    · have g3 := g.2.2.1; rw [t10, ← s2, hF] at g3; omega
  · have := hE.2.2.2.2
    rw [← qm_bed hde] at this
    rcases hJe with g | g
    · have g1 := g.1; rw [t10] at g1; omega
    · have g5 := g.2.2.2.2.1; rw [t10, ← s6, hB] at g5; omega
  · intro x x1 x2 y y1
    have hx : x < qc_n (qm_run tb W0 (Lz + z + 2)) := by rw [t9]; omega
    obtain ⟨u1, u2, u3, u4, u5, u6, u7⟩ := hsz x hx
    have := e5 x x1 hx y y1
    unfold qf_node at this ⊢
    rw [u1, u2, u3, u4, u5, u6, u7]
    exact this
end
end
section
/-! the pictures of the two states -/
def zr_t (a_ruleLhs a_ruleLen a_ruleRhs a_cells : Nat → Int32) (tb : qm_T) : Prop := qm_tv tb ∧ (∀ r, r < 12 → a_ruleLhs r = nI (qt_lh tb r) ∧ qt_lh tb r ≤ 11 ∧ a_ruleLen r = nI (qt_ln tb r) ∧ qt_ln tb r ≤ 4 ∧ ∀ i, i < 4 → (a_ruleRhs r >>> ((4 * nI i) &&& 31)) &&& 15 = nI (qt_nb tb r i) ∧ qt_nb tb r i < 16) ∧ (∀ j, j < 192 → a_cells j = nI (qt_ce tb j) ∧ qt_ce tb j ≤ 43)
def zr_w (a_tokens : Nat → Int32) (W : qm_W) : Prop := W.2 ≤ 16 ∧ ∀ p, p < W.2 → a_tokens p = nI (W.1 p) ∧ W.1 p ≤ 6
theorem zr_wv {a_tokens : Nat → Int32} {W : qm_W} (h : zr_w a_tokens W) : qm_wv W := ⟨h.1, fun p hp => (h.2 p hp).2⟩
/-- slot s of the component holds node i -/
def zr_s (tb : qm_T) (c : qm_C) (o : Nat → Nat) (s i f l b : Nat) (w : Int32) (a_nodeRule a_nodeFirst a_nodeLast a_nodeBorn a_nodeState a_nodeLook a_nodeSize a_nodeBroken a_kids : Nat → Int32) : Prop := s < 248 ∧ a_nodeRule s = nI (qc_R c i) ∧ a_nodeBorn s = w ∧ a_nodeState s = nI (qc_S c i) ∧ a_nodeLook s = nI (qc_K c i) ∧ a_nodeSize s = nI (i + 1 - qc_B c i) ∧ a_nodeBroken s = nI b ∧ (b = 0 → a_nodeFirst s = nI f ∧ a_nodeLast s = nI l) ∧ ∀ k, k < qt_ln tb (qc_R c i) → a_kids (s * 4 + k) = (if qc_C c i k < 256 then nI (o (qc_C c i k)) else -1)
def zr_o (tb : qm_T) (c : qm_C) (n : Nat) (o FF LL bk : Nat → Nat) (bn : Nat → Int32) (a_nodeRule a_nodeFirst a_nodeLast a_nodeBorn a_nodeState a_nodeLook a_nodeSize a_nodeBroken a_kids : Nat → Int32) : Prop := ∀ i, i < n → zr_s tb c o (o i) i (FF i) (LL i) (bk i) (bn i) a_nodeRule a_nodeFirst a_nodeLast a_nodeBorn a_nodeState a_nodeLook a_nodeSize a_nodeBroken a_kids
/-- the reference's parse -/
def zy_P (tb : qm_T) (c : qm_C) (a_nodeRule a_nodeFirst a_nodeLast a_nodeState a_nodeLook a_nodeChild a_entryRef a_entryState : Nat → Int32) : Prop := (∀ x, x < qc_n c → a_nodeRule x = nI (qc_R c x) ∧ a_nodeFirst x = nI (qc_F c x) ∧ a_nodeLast x = nI (qc_L c x) ∧ a_nodeState x = nI (qc_S c x) ∧ a_nodeLook x = nI (qc_K c x) ∧ ∀ k, k < qt_ln tb (qc_R c x) → a_nodeChild (x * 4 + k) = nI (qc_C c x k)) ∧ (∀ e, e < qc_d c → a_entryRef e = nI (qc_er c e) ∧ a_entryState e = nI (qc_es c e))
theorem zz_at {a : Nat → Int32} {x v : Int32} (n : Nat) (hx : x = nI n) (hn : n < 2 ^ 31) (h : a n = v) : a x.toNatClampNeg = v := by rw [hx, nI_clamp hn]; exact h
theorem zz_up {a : Nat → Int32} {x v w : Int32} (n : Nat) (hx : x = nI n) (hn : n < 2 ^ 31) (hv : v = w) : upd a x.toNatClampNeg v = upd a n w := by rw [hx, nI_clamp hn, hv]
theorem zz_m4 (x i : Nat) : nI x * 4 + nI i = nI (x * 4 + i) := by rw [show (4 : Int32) = nI 4 from rfl, pk_mul, nI_add]
theorem zz_m40 (x : Nat) : nI x * 4 = nI (x * 4) := by rw [show (4 : Int32) = nI 4 from rfl, pk_mul]
theorem zz_m12 (x i : Nat) : nI x * 12 + nI i = nI (x * 12 + i) := by rw [show (12 : Int32) = nI 12 from rfl, pk_mul, nI_add]
theorem zz_256 (x : Nat) : (256 : Int32) + nI x = nI (256 + x) := by rw [show (256 : Int32) = nI 256 from rfl, nI_add]
theorem zz_s256 {x : Nat} (h : 256 ≤ x) : nI x - 256 = nI (x - 256) := by rw [show (256 : Int32) = nI 256 from rfl, pk_sub h]
theorem zz_s32 {x : Nat} (h : 32 ≤ x) : nI x - 32 = nI (x - 32) := by rw [show (32 : Int32) = nI 32 from rfl, pk_sub h]
theorem zz_s1 {x : Nat} (h : 1 ≤ x) : nI x - 1 = nI (x - 1) := by rw [show (1 : Int32) = nI 1 from rfl, pk_sub h]
theorem zz_b0 : vp_nar .boolean 0 = 0 := rfl
theorem zz_b1 : vp_nar .boolean 1 = 1 := rfl
end
section
section
variable {tb : qm_T} {W : qm_W} {c : qm_C} {f_greatest f_count f_nodes f_olds f_entries f_pos f_result f_keptNodes f_parseNumber f_stale : Int32} {a_ruleLhs a_ruleLen a_ruleRhs a_cells a_token a_nodeRule a_nodeFirst a_nodeLast a_nodeBorn a_nodeState a_nodeLook a_nodeChild a_oldRule a_oldFirst a_oldLast a_oldBorn a_oldState a_oldLook a_entryRef a_entryState : Nat → Int32}
theorem wy_top {post : Int32 → Prop} (hd : qc_d c ≤ 16) (hE : ∀ e, e < qc_d c → a_entryState e = nI (qc_es c e)) (h : post (nI (qm_top c))) : wpY_topState post (f_greatest, f_count, f_nodes, f_olds, nI (qc_d c), f_pos, f_result, f_keptNodes, f_parseNumber, f_stale, a_ruleLhs, a_ruleLen, a_ruleRhs, a_cells, a_token, a_nodeRule, a_nodeFirst, a_nodeLast, a_nodeBorn, a_nodeState, a_nodeLook, a_nodeChild, a_oldRule, a_oldFirst, a_oldLast, a_oldBorn, a_oldState, a_oldLook, a_entryRef, a_entryState) := by
  unfold qm_top qm_sb at h
  refine pk_eq (qc_d c) 0 (fun h0 => ?_) (fun h0 => ?_)
  · rw [if_pos h0] at h; exact h
  · rw [if_neg h0] at h
    refine And.intro (pk_in (qc_d c - 1) 16 (by omega) (zz_s1 (by omega))) ?_
    rw [zz_at (qc_d c - 1) (zz_s1 (by omega)) (by omega) (hE _ (by omega))]
    exact h
theorem wy_symOf {post : Int32 → Prop} {e : Nat} (ht : zr_t a_ruleLhs a_ruleLen a_ruleRhs a_cells tb) (hw : zr_w a_token W) (J : qm_J tb W c) (hP : zy_P tb c a_nodeRule a_nodeFirst a_nodeLast a_nodeState a_nodeLook a_nodeChild a_entryRef a_entryState) (he : e < qc_d c) (h : post (nI (qm_sy tb W c e))) : wpY_symbolOf post (f_greatest, f_count, f_nodes, f_olds, f_entries, f_pos, f_result, f_keptNodes, f_parseNumber, f_stale, a_ruleLhs, a_ruleLen, a_ruleRhs, a_cells, a_token, a_nodeRule, a_nodeFirst, a_nodeLast, a_nodeBorn, a_nodeState, a_nodeLook, a_nodeChild, a_oldRule, a_oldFirst, a_oldLast, a_oldBorn, a_oldState, a_oldLook, a_entryRef, a_entryState) (nI (qc_er c e)) := by
  obtain ⟨_, _, c3, c4, _⟩ := qj_cnt ht.1 (zr_wv hw) J
  unfold qm_sy at h
  rcases (J.1.2.2.2 e he).2.2.2.2 with g | g
  · have hp := (qj_le ht.1 J (e := e) (f := qc_d c) (by omega) (by omega)).2.2 he
    rw [qm_peD] at hp
    have g1 := g.1
    have hpW := J.1.1
    rw [if_neg (by omega)] at h
    refine pk_lt (qc_er c e) 256 (fun h0 => by omega) (fun h0 => ?_)
    refine And.intro (pk_in (qc_er c e - 256) 16 (by omega) (zz_s256 h0)) ?_
    rw [zz_at (qc_er c e - 256) (zz_s256 h0) (by omega) (hw.2 _ (by omega)).1]
    exact h
  · have hx := qj_erN J he g
    have hR := (J.2.1 _ hx).1.1
    rw [if_pos g.1] at h
    refine pk_lt (qc_er c e) 256 (fun h0 => ?_) (fun h0 => by have := g.1; omega)
    refine And.intro (pk_in (qc_er c e) 160 (by omega)) ?_
    have e1 : a_nodeRule (nI (qc_er c e)).toNatClampNeg = nI (qc_R c (qc_er c e)) := zz_at _ rfl (by omega) (hP.1 _ hx).1
    rw [e1]
    refine And.intro (pk_in _ 12 hR) ?_
    rw [zz_at _ rfl (by omega) (ht.2.1 _ hR).1]
    exact h
theorem wy_214 {post : Int32 → SY → Prop} {len b x : Nat} {g : Int32} {ch0 : Nat → Int32} (hl : len ≤ 4) (hb : b + len ≤ 16) (hb1 : b < 16) (hx : x < 160)
    (hpost : ∀ ch : Nat → Int32, (∀ k, k < len → ch (x * 4 + k) = a_entryRef (b + k)) → (∀ j, j < x * 4 → ch j = ch0 j) → post 0 (f_greatest, f_count, f_nodes + 1, f_olds, nI (b + 1), f_pos, f_result, f_keptNodes, f_parseNumber, f_stale, a_ruleLhs, a_ruleLen, a_ruleRhs, a_cells, a_token, a_nodeRule, a_nodeFirst, a_nodeLast, a_nodeBorn, a_nodeState, a_nodeLook, ch, a_oldRule, a_oldFirst, a_oldLast, a_oldBorn, a_oldState, a_oldLook, upd a_entryRef b (nI x), upd a_entryState b g)) :
    ∀ d i, i + d = len → ∀ n, d < n → ∀ ch : Nat → Int32, (∀ k, k < i → ch (x * 4 + k) = a_entryRef (b + k)) → (∀ j, j < x * 4 → ch j = ch0 j) → wY_reduceBy_214 post (nI len) (nI b) g (nI x) f_greatest f_count f_nodes f_olds f_entries f_pos f_result f_keptNodes f_parseNumber f_stale n (nI i) a_ruleLhs a_ruleLen a_ruleRhs a_cells a_token a_nodeRule a_nodeFirst a_nodeLast a_nodeBorn a_nodeState a_nodeLook ch a_oldRule a_oldFirst a_oldLast a_oldBorn a_oldState a_oldLook a_entryRef a_entryState := by
  intro d
  induction d with
  | zero =>
    intro i hi n hn ch h1 h2
    obtain ⟨n, rfl⟩ : ∃ m, n = m + 1 := ⟨n - 1, by omega⟩
    refine pk_le len i (fun _ => ?_) (fun h => by omega)
    refine nm_e (And.intro (pk_in b 16 hb1) (nm_r (zz_up b rfl (by omega) rfl) (And.intro (pk_in b 16 hb1) (nm_r (zz_up b rfl (by omega) rfl) (nm_r (nI_1 b) ?_)))))
    exact hpost ch (fun k hk => h1 k (by omega)) h2
  | succ d ih =>
    intro i hi n hn ch h1 h2
    obtain ⟨n, rfl⟩ : ∃ m, n = m + 1 := ⟨n - 1, by omega⟩
    refine pk_le len i (fun h => by omega) (fun _ => ?_)
    refine And.intro (pk_in (b + i) 16 (by omega) (nI_add b i)) (And.intro (pk_in (x * 4 + i) 640 (by omega) (zz_m4 x i)) (nm_r (zz_up (x * 4 + i) (zz_m4 x i) (by omega) (zz_at (b + i) (nI_add b i) (by omega) rfl)) (nm_r (nI_1 i) ?_)))
    refine ih (i + 1) (by omega) n (by omega) _ ?_ ?_
    · intro k hk
      by_cases hki : k = i
      · rw [hki, pk_us]
      · rw [pk_un (by omega)]; exact h1 k (by omega)
    · intro j hj
      rw [pk_un (by omega)]; exact h2 j hj
/-- the reference's arrays behind a reduction -/
theorem zy_red {r la : Nat} {ch : Nat → Int32} (hb : qm_rb tb c r < qc_d c) (hl : qm_rb tb c r + qt_ln tb r = qc_d c) (hl4 : ∀ x, x < qc_n c → qt_ln tb (qc_R c x) ≤ 4) (hP : zy_P tb c a_nodeRule a_nodeFirst a_nodeLast a_nodeState a_nodeLook a_nodeChild a_entryRef a_entryState) (h1 : ∀ k, k < qt_ln tb r → ch (qc_n c * 4 + k) = a_entryRef (qm_rb tb c r + k)) (h2 : ∀ j, j < qc_n c * 4 → ch j = a_nodeChild j) :
    zy_P tb (qm_rd tb c r la) (upd a_nodeRule (qc_n c) (nI r)) (upd a_nodeFirst (qc_n c) (nI (qc_ef c (qm_rb tb c r)))) (upd a_nodeLast (qc_n c) (nI (qc_p c - 1))) (upd a_nodeState (qc_n c) (nI (qm_sb c (qm_rb tb c r)))) (upd a_nodeLook (qc_n c) (nI la)) ch (upd a_entryRef (qm_rb tb c r) (nI (qc_n c))) (upd a_entryState (qm_rb tb c r) (nI (qt_ce tb (qm_sb c (qm_rb tb c r) * 12 + qt_lh tb r)))) := by
  refine ⟨?_, ?_⟩
  · intro x hx
    have hx1 : x < qc_n c + 1 := hx
    by_cases hxn : x = qc_n c
    · subst hxn
      rw [qr_R1, qr_F1, qr_L1, qr_S1, qr_K1, pk_us, pk_us, pk_us, pk_us, pk_us]
      refine ⟨rfl, rfl, rfl, rfl, rfl, ?_⟩
      intro k hk
      rw [h1 k hk, qr_C1]
      exact (hP.2 _ (by omega)).1
    · have hx' : x < qc_n c := by omega
      rw [qr_R hx', qr_F hx', qr_L hx', qr_S hx', qr_K hx', pk_un hxn, pk_un hxn, pk_un hxn, pk_un hxn, pk_un hxn]
      obtain ⟨a1, a2, a3, a4, a5, a6⟩ := hP.1 x hx'
      refine ⟨a1, a2, a3, a4, a5, ?_⟩
      intro k hk
      have := hl4 x hx'
      rw [h2 _ (by omega), qr_C hx']
      exact a6 k hk
  · intro e he
    have he1 : e < qm_rb tb c r + 1 := he
    by_cases hd : e = qm_rb tb c r
    · subst hd
      rw [qr_er1, qr_es1, pk_us, pk_us]
      exact ⟨rfl, rfl⟩
    · rw [qr_er (by omega), qr_es (by omega), pk_un hd, pk_un hd]
      exact hP.2 e (by omega)
theorem wy_99 {post : Int32 → SY → Prop} {r : Nat} {z : Int32} (hz : z = nI (qm_sb c (qm_rb tb c r))) (ht : zr_t a_ruleLhs a_ruleLen a_ruleRhs a_cells tb) (hw : zr_w a_token W) (J : qm_J tb W c) (hP : zy_P tb c a_nodeRule a_nodeFirst a_nodeLast a_nodeState a_nodeLook a_nodeChild a_entryRef a_entryState) (hr : r < 12) (hl0 : qt_ln tb r ≠ 0) (hl1 : qt_ln tb r ≤ qc_d c) (hs : ∀ i, i < qt_ln tb r → qm_sy tb W c (qm_rb tb c r + i) = qt_nb tb r i)
    (h0 : ¬ qm_rok tb W c r → post 3 (f_greatest, f_count, nI (qc_n c), f_olds, nI (qc_d c), nI (qc_p c), f_result, f_keptNodes, f_parseNumber, f_stale, a_ruleLhs, a_ruleLen, a_ruleRhs, a_cells, a_token, a_nodeRule, a_nodeFirst, a_nodeLast, a_nodeBorn, a_nodeState, a_nodeLook, a_nodeChild, a_oldRule, a_oldFirst, a_oldLast, a_oldBorn, a_oldState, a_oldLook, a_entryRef, a_entryState))
    (h1 : qm_rok tb W c r → ∀ aR aF aL aS aK aC aE aT : Nat → Int32, zy_P tb (qm_rd tb c r (qm_la W c)) aR aF aL aS aK aC aE aT → post 0 (f_greatest, f_count, nI (qc_n c + 1), f_olds, nI (qm_rb tb c r + 1), nI (qc_p c), f_result, f_keptNodes, f_parseNumber, f_stale, a_ruleLhs, a_ruleLen, a_ruleRhs, a_cells, a_token, aR, aF, aL, a_nodeBorn, aS, aK, aC, a_oldRule, a_oldFirst, a_oldLast, a_oldBorn, a_oldState, a_oldLook, aE, aT)) :
    wY_reduceBy_99 post (nI r) (nI (qm_la W c)) (nI (qt_ln tb r)) (nI (qm_rb tb c r)) z f_greatest f_count (nI (qc_n c)) f_olds (nI (qc_d c)) (nI (qc_p c)) f_result f_keptNodes f_parseNumber f_stale a_ruleLhs a_ruleLen a_ruleRhs a_cells a_token a_nodeRule a_nodeFirst a_nodeLast a_nodeBorn a_nodeState a_nodeLook a_nodeChild a_oldRule a_oldFirst a_oldLast a_oldBorn a_oldState a_oldLook a_entryRef a_entryState := by
  subst hz
  obtain ⟨_, _, c3, c4, _⟩ := qj_cnt ht.1 (zr_wv hw) J
  have hv := ht.1
  have hlt := hv.1 r hr hl0
  have hb : qm_rb tb c r < qc_d c := by unfold qm_rb; omega
  have hbd : qm_rb tb c r + qt_ln tb r = qc_d c := by unfold qm_rb; omega
  have hsb := qj_top J (e := qm_rb tb c r) (by omega)
  have hlh : a_ruleLhs (nI r).toNatClampNeg = nI (qt_lh tb r) := zz_at r rfl (by omega) (ht.2.1 r hr).1
  have hpp := (qj_le hv J (e := qm_rb tb c r) (f := qc_d c) (by omega) (by omega)).2.2 hb
  rw [qm_peD] at hpp
  have hl4 : ∀ x, x < qc_n c → qt_ln tb (qc_R c x) ≤ 4 := fun x hx => (ht.2.1 _ (J.2.1 x hx).1.1).2.2.2.1
  unfold wY_reduceBy_99
  rw [hlh, zz_m12]
  have hce := ht.2.2 (qm_sb c (qm_rb tb c r) * 12 + qt_lh tb r) (by omega)
  refine And.intro (pk_in r 12 hr) (And.intro (pk_in (qm_sb c (qm_rb tb c r) * 12 + qt_lh tb r) 192 (by omega)) (nm_r (zz_at _ rfl (by omega) hce.1) ?_))
  refine pk_eq (qt_ce tb (qm_sb c (qm_rb tb c r) * 12 + qt_lh tb r)) 0 (fun hz => h0 (fun hk => hk.2.2.2 hz)) (fun hz => ?_)
  have hk : qm_rok tb W c r := ⟨hl0, hl1, hs, hz⟩
  have hE := hP.2 _ hb
  refine And.intro (pk_in (qm_rb tb c r) 16 (by omega)) (nm_r (zz_at _ rfl (by omega) hE.1) (And.intro (pk_in (qc_n c) 160 (by omega)) (nm_r (zz_up _ rfl (by omega) rfl) ?_)))
  have key : wY_reduceBy_180 post (nI (qm_la W c)) (nI (qt_ln tb r)) (nI (qm_rb tb c r)) (nI (qm_sb c (qm_rb tb c r))) (nI (qt_ce tb (qm_sb c (qm_rb tb c r) * 12 + qt_lh tb r))) (nI (qc_n c)) (nI (qc_ef c (qm_rb tb c r))) (nI (qc_n c)) f_greatest f_count (nI (qc_n c)) f_olds (nI (qc_d c)) (nI (qc_p c)) f_result f_keptNodes f_parseNumber f_stale a_ruleLhs a_ruleLen a_ruleRhs a_cells a_token (upd a_nodeRule (qc_n c) (nI r)) a_nodeFirst a_nodeLast a_nodeBorn a_nodeState a_nodeLook a_nodeChild a_oldRule a_oldFirst a_oldLast a_oldBorn a_oldState a_oldLook a_entryRef a_entryState := by
    refine And.intro (pk_in (qc_n c) 160 (by omega)) (nm_r (zz_up _ rfl (by omega) rfl) (And.intro (pk_in (qc_n c) 160 (by omega)) (nm_r (zz_up _ rfl (by omega) (zz_s1 (by omega))) (And.intro (pk_in (qc_n c) 160 (by omega)) (nm_r (zz_up _ rfl (by omega) rfl) (And.intro (pk_in (qc_n c) 160 (by omega)) (nm_r (zz_up _ rfl (by omega) rfl) ?_)))))))
    refine ⟨qt_ln tb r + 1, wy_214 (ch0 := a_nodeChild) (by omega) (by omega) (by omega) (by omega) ?_ (qt_ln tb r) 0 (by omega) _ (by omega) _ (fun k hk => absurd hk (Nat.not_lt_zero _)) (fun j _ => rfl)⟩
    intro ch c1 c2
    rw [nI_1]
    exact h1 hk _ _ _ _ _ _ _ _ (zy_red hb hbd hl4 hP c1 c2)
  rcases (J.1.2.2.2 _ hb).2.2.2.2 with g | g
  · have g1 := g.1
    have hf : nI (qc_er c (qm_rb tb c r)) - 256 = nI (qc_ef c (qm_rb tb c r)) := by
      rw [zz_s256 (by omega), ← qm_ped hb]; congr 1; omega
    refine pk_lt (qc_er c (qm_rb tb c r)) 256 (fun h => by omega) (fun _ => ?_)
    rw [hf]
    exact key
  · have hx := qj_erN J hb g
    have hf : a_nodeFirst (nI (qc_er c (qm_rb tb c r))).toNatClampNeg = nI (qc_ef c (qm_rb tb c r)) := by
      rw [zz_at _ rfl (by omega) (hP.1 _ hx).2.1, g.2.2.1, qm_ped hb]
    refine pk_lt (qc_er c (qm_rb tb c r)) 256 (fun _ => ?_) (fun h => by have := g.1; omega)
    rw [hf]
    exact And.intro (pk_in (qc_er c (qm_rb tb c r)) 160 (by omega)) key
theorem wy_32 {post : Int32 → SY → Prop} {r : Nat} (ht : zr_t a_ruleLhs a_ruleLen a_ruleRhs a_cells tb) (hw : zr_w a_token W) (J : qm_J tb W c) (hP : zy_P tb c a_nodeRule a_nodeFirst a_nodeLast a_nodeState a_nodeLook a_nodeChild a_entryRef a_entryState) (hr : r < 12) (hl0 : qt_ln tb r ≠ 0) (hl1 : qt_ln tb r ≤ qc_d c)
    (h0 : ¬ qm_rok tb W c r → post 3 (f_greatest, f_count, nI (qc_n c), f_olds, nI (qc_d c), nI (qc_p c), f_result, f_keptNodes, f_parseNumber, f_stale, a_ruleLhs, a_ruleLen, a_ruleRhs, a_cells, a_token, a_nodeRule, a_nodeFirst, a_nodeLast, a_nodeBorn, a_nodeState, a_nodeLook, a_nodeChild, a_oldRule, a_oldFirst, a_oldLast, a_oldBorn, a_oldState, a_oldLook, a_entryRef, a_entryState))
    (h1 : qm_rok tb W c r → ∀ aR aF aL aS aK aC aE aT : Nat → Int32, zy_P tb (qm_rd tb c r (qm_la W c)) aR aF aL aS aK aC aE aT → post 0 (f_greatest, f_count, nI (qc_n c + 1), f_olds, nI (qm_rb tb c r + 1), nI (qc_p c), f_result, f_keptNodes, f_parseNumber, f_stale, a_ruleLhs, a_ruleLen, a_ruleRhs, a_cells, a_token, aR, aF, aL, a_nodeBorn, aS, aK, aC, a_oldRule, a_oldFirst, a_oldLast, a_oldBorn, a_oldState, a_oldLook, aE, aT)) :
    ∀ d i, i + d = qt_ln tb r → ∀ n, d < n → (∀ j, j < i → qm_sy tb W c (qm_rb tb c r + j) = qt_nb tb r j) → wY_reduceBy_32 post (nI r) (nI (qm_la W c)) (nI (qt_ln tb r)) (nI (qm_rb tb c r)) f_greatest f_count (nI (qc_n c)) f_olds (nI (qc_d c)) (nI (qc_p c)) f_result f_keptNodes f_parseNumber f_stale a_ruleLhs a_ruleLen a_ruleRhs a_cells a_token a_nodeRule a_nodeFirst a_nodeLast a_nodeBorn a_nodeState a_nodeLook a_nodeChild a_oldRule a_oldFirst a_oldLast a_oldBorn a_oldState a_oldLook a_entryRef a_entryState n (nI i) := by
  obtain ⟨_, _, c3, c4, _⟩ := qj_cnt ht.1 (zr_wv hw) J
  have hlt := ht.1.1 r hr hl0
  have hb : qm_rb tb c r < qc_d c := by unfold qm_rb; omega
  have hbd : qm_rb tb c r + qt_ln tb r = qc_d c := by unfold qm_rb; omega
  intro d
  induction d with
  | zero =>
    intro i hi n hn hs
    obtain ⟨n, rfl⟩ : ∃ m, n = m + 1 := ⟨n - 1, by omega⟩
    have hi' : i = qt_ln tb r := by omega
    refine pk_le (qt_ln tb r) i (fun _ => ?_) (fun h => by omega)
    refine pk_eq (qm_rb tb c r) 0 (fun hz => ?_) (fun hz => ?_)
    · refine wy_99 ?_ ht hw J hP hr hl0 hl1 (fun j hj => hs j (by omega)) h0 h1
      unfold qm_sb; rw [if_pos hz]; rfl
    · refine And.intro (pk_in (qm_rb tb c r - 1) 16 (by omega) (zz_s1 (by omega))) ?_
      refine wy_99 ?_ ht hw J hP hr hl0 hl1 (fun j hj => hs j (by omega)) h0 h1
      rw [zz_at (qm_rb tb c r - 1) (zz_s1 (by omega)) (by omega) (hP.2 _ (by omega)).2]
      unfold qm_sb; rw [if_neg hz]
  | succ d ih =>
    intro i hi n hn hs
    obtain ⟨n, rfl⟩ : ∃ m, n = m + 1 := ⟨n - 1, by omega⟩
    refine pk_le (qt_ln tb r) i (fun h => by omega) (fun _ => ?_)
    refine And.intro (pk_in (qm_rb tb c r + i) 16 (by omega) (nI_add _ _)) ?_
    rw [zz_at (qm_rb tb c r + i) (nI_add _ _) (by omega) (hP.2 _ (by omega)).1]
    refine wy_symOf ht hw J hP (by omega) ?_
    refine And.intro (pk_in r 12 hr) ?_
    have hnb := ((ht.2.1 r hr).2.2.2.2) i (by omega)
    have hrhs : a_ruleRhs (nI r).toNatClampNeg = a_ruleRhs r := zz_at r rfl (by omega) rfl
    rw [hrhs, hnb.1]
    have hsy : qm_sy tb W c (qm_rb tb c r + i) < 2 ^ 31 := by
      unfold qm_sy
      have he : qm_rb tb c r + i < qc_d c := by omega
      rcases (J.1.2.2.2 _ he).2.2.2.2 with g | g
      · have g1 := g.1
        have hp := (qj_le ht.1 J (e := qm_rb tb c r + i) (f := qc_d c) (by omega) (by omega)).2.2 he
        rw [qm_peD] at hp
        have hpW := J.1.1
        rw [if_neg (by omega)]
        have := (hw.2 (qc_er c (qm_rb tb c r + i) - 256) (by omega)).2
        omega
      · rw [if_pos g.1]
        have := (qj_lh ht.1 J (qj_erN J he g)).2
        omega
    refine pk_eq _ _ (fun he => ?_) (fun he => ?_) rfl rfl hsy (by omega)
    · refine nm_r (nI_1 i) ?_
      refine ih (i + 1) (by omega) n (by omega) ?_
      intro j hj
      by_cases hji : j = i
      · rw [hji]; exact he
      · exact hs j (by omega)
    · exact h0 (fun hk => he (hk.2.2.1 i (by omega)))
theorem wy_red {post : Int32 → SY → Prop} {r : Nat} (ht : zr_t a_ruleLhs a_ruleLen a_ruleRhs a_cells tb) (hw : zr_w a_token W) (J : qm_J tb W c) (hP : zy_P tb c a_nodeRule a_nodeFirst a_nodeLast a_nodeState a_nodeLook a_nodeChild a_entryRef a_entryState) (hr : r < 12)
    (h0 : ¬ qm_rok tb W c r → post 3 (f_greatest, f_count, nI (qc_n c), f_olds, nI (qc_d c), nI (qc_p c), f_result, f_keptNodes, f_parseNumber, f_stale, a_ruleLhs, a_ruleLen, a_ruleRhs, a_cells, a_token, a_nodeRule, a_nodeFirst, a_nodeLast, a_nodeBorn, a_nodeState, a_nodeLook, a_nodeChild, a_oldRule, a_oldFirst, a_oldLast, a_oldBorn, a_oldState, a_oldLook, a_entryRef, a_entryState))
    (h1 : qm_rok tb W c r → ∀ aR aF aL aS aK aC aE aT : Nat → Int32, zy_P tb (qm_rd tb c r (qm_la W c)) aR aF aL aS aK aC aE aT → post 0 (f_greatest, f_count, nI (qc_n c + 1), f_olds, nI (qm_rb tb c r + 1), nI (qc_p c), f_result, f_keptNodes, f_parseNumber, f_stale, a_ruleLhs, a_ruleLen, a_ruleRhs, a_cells, a_token, aR, aF, aL, a_nodeBorn, aS, aK, aC, a_oldRule, a_oldFirst, a_oldLast, a_oldBorn, a_oldState, a_oldLook, aE, aT)) :
    wpY_reduceBy post (f_greatest, f_count, nI (qc_n c), f_olds, nI (qc_d c), nI (qc_p c), f_result, f_keptNodes, f_parseNumber, f_stale, a_ruleLhs, a_ruleLen, a_ruleRhs, a_cells, a_token, a_nodeRule, a_nodeFirst, a_nodeLast, a_nodeBorn, a_nodeState, a_nodeLook, a_nodeChild, a_oldRule, a_oldFirst, a_oldLast, a_oldBorn, a_oldState, a_oldLook, a_entryRef, a_entryState) (nI r) (nI (qm_la W c)) := by
  obtain ⟨_, _, c3, c4, _⟩ := qj_cnt ht.1 (zr_wv hw) J
  have hl := ht.2.1 r hr
  refine And.intro (pk_in r 12 hr) (nm_r (zz_at r rfl (by omega) hl.2.2.1) ?_)
  refine pk_eq (qt_ln tb r) 0 (fun hz => h0 (fun hk => hk.1 hz)) (fun hz => ?_)
  refine pk_le (qt_ln tb r) (qc_d c) (fun hle => ?_) (fun hle => h0 (fun hk => by have := hk.2.1; omega))
  refine nm_r (e' := nI (qm_rb tb c r)) (pk_sub hle) ?_
  exact ⟨qt_ln tb r + 1, wy_32 ht hw J hP hr hz hle h0 h1 (qt_ln tb r) 0 (by omega) _ (by omega) (fun j hj => absurd hj (Nat.not_lt_zero _))⟩
end
end
section
/-- the verdict of a machine that doesn't go on -/
def qm_vd (tb : qm_T) (W : qm_W) (c : qm_C) : Nat := if qm_act tb W c = 0 then 2 else if qm_act tb W c = 16 then (if qc_d c = 1 ∧ qc_er c 0 < 256 then 1 else 3) else 3
theorem qm_vd_in (tb : qm_T) (W : qm_W) (c : qm_C) : 1 ≤ qm_vd tb W c ∧ qm_vd tb W c ≤ 3 := by
  unfold qm_vd
  by_cases h1 : qm_act tb W c = 0
  · rw [if_pos h1]; omega
  · rw [if_neg h1]
    by_cases h2 : qm_act tb W c = 16
    · rw [if_pos h2]
      by_cases h3 : qc_d c = 1 ∧ qc_er c 0 < 256
      · rw [if_pos h3]; omega
      · rw [if_neg h3]; omega
    · rw [if_neg h2]; omega
section
variable {tb : qm_T} {W : qm_W} {c : qm_C} {f_greatest f_count f_nodes f_olds f_entries f_pos f_result f_keptNodes f_parseNumber f_stale : Int32} {a_ruleLhs a_ruleLen a_ruleRhs a_cells a_token a_nodeRule a_nodeFirst a_nodeLast a_nodeBorn a_nodeState a_nodeLook a_nodeChild a_oldRule a_oldFirst a_oldLast a_oldBorn a_oldState a_oldLook a_entryRef a_entryState : Nat → Int32}
theorem zy_sh {a : Nat} (hP : zy_P tb c a_nodeRule a_nodeFirst a_nodeLast a_nodeState a_nodeLook a_nodeChild a_entryRef a_entryState) : zy_P tb (qm_sh c a) a_nodeRule a_nodeFirst a_nodeLast a_nodeState a_nodeLook a_nodeChild (upd a_entryRef (qc_d c) (nI (256 + qc_p c))) (upd a_entryState (qc_d c) (nI a)) := by
  refine ⟨hP.1, ?_⟩
  intro e he
  have he1 : e < qc_d c + 1 := he
  by_cases hd : e = qc_d c
  · subst hd
    rw [qs_er1, qs_es1, pk_us, pk_us]
    exact ⟨rfl, rfl⟩
  · rw [qs_er (by omega), qs_es (by omega), pk_un hd, pk_un hd]
    exact hP.2 e (by omega)
theorem wy_184 {post : Int32 → SY → Prop} {n k : Nat} (ht : zr_t a_ruleLhs a_ruleLen a_ruleRhs a_cells tb) (hw : zr_w a_token W) (J : qm_J tb W c) (hP : zy_P tb c a_nodeRule a_nodeFirst a_nodeLast a_nodeState a_nodeLook a_nodeChild a_entryRef a_entryState)
    (h0 : ¬ qm_go tb W c → wY_reparse_140 post n (nI (k + 1)) f_greatest f_count (nI (qc_n c)) f_olds (nI (qc_d c)) (nI (qc_p c)) (nI (qm_vd tb W c)) f_keptNodes f_parseNumber f_stale a_ruleLhs a_ruleLen a_ruleRhs a_cells a_token a_nodeRule a_nodeFirst a_nodeLast a_nodeBorn a_nodeState a_nodeLook a_nodeChild a_oldRule a_oldFirst a_oldLast a_oldBorn a_oldState a_oldLook a_entryRef a_entryState)
    (h1 : qm_go tb W c → ∀ aR aF aL aS aK aC aE aT : Nat → Int32, zy_P tb (qm_nx tb W c) aR aF aL aS aK aC aE aT → wY_reparse_140 post n (nI (k + 1)) f_greatest f_count (nI (qc_n (qm_nx tb W c))) f_olds (nI (qc_d (qm_nx tb W c))) (nI (qc_p (qm_nx tb W c))) 0 f_keptNodes f_parseNumber f_stale a_ruleLhs a_ruleLen a_ruleRhs a_cells a_token aR aF aL a_nodeBorn aS aK aC a_oldRule a_oldFirst a_oldLast a_oldBorn a_oldState a_oldLook aE aT) :
    wY_reparse_184 post (wY_reparse_140 post n) (nI k) (nI (qm_top c)) (nI (qm_la W c)) f_greatest f_count (nI (qc_n c)) f_olds (nI (qc_d c)) (nI (qc_p c)) 0 f_keptNodes f_parseNumber f_stale a_ruleLhs a_ruleLen a_ruleRhs a_cells a_token a_nodeRule a_nodeFirst a_nodeLast a_nodeBorn a_nodeState a_nodeLook a_nodeChild a_oldRule a_oldFirst a_oldLast a_oldBorn a_oldState a_oldLook a_entryRef a_entryState := by
  have hv := ht.1
  have hwv := zr_wv hw
  obtain ⟨_, c2, c3, c4, _⟩ := qj_cnt hv hwv J
  have htop : qm_top c < 16 := qj_top J (Nat.le_refl _)
  have hla : qm_la W c ≤ 7 := (qm_sym_le hwv _).1
  have hce := ht.2.2 (qm_top c * 12 + qm_la W c) (by omega)
  have hav := qm_actv hv hwv J
  unfold qm_vd at h0
  unfold wY_reparse_184
  rw [zz_m12]
  refine And.intro (pk_in (qm_top c * 12 + qm_la W c) 192 (by omega)) (nm_r (e' := nI (qm_act tb W c)) (zz_at _ rfl (by omega) hce.1) ?_)
  have ha43 : qm_act tb W c ≤ 43 := hce.2
  refine pk_eq (qm_act tb W c) 0 (fun hz => ?_) (fun hz => ?_)
  · refine nm_r (nI_1 k) ?_
    have := h0 (fun hg => hg.1 hz)
    rw [if_pos hz] at this
    exact this
  · rw [if_neg hz] at h0
    refine pk_lt 15 (qm_act tb W c) (fun h15 => ?_) (fun h15 => ?_)
    · refine pk_eq (qm_act tb W c) 16 (fun h16 => ?_) (fun h16 => ?_)
      · rw [if_pos h16] at h0
        have hng : ¬ qm_go tb W c := fun hg => hg.2.1 h16
        refine pk_eq (qc_d c) 1 (fun hd => ?_) (fun hd => ?_)
        · have her := (hP.2 0 (by omega)).1
          have her2 : qc_er c 0 < 2 ^ 31 := by
            rcases (J.1.2.2.2 0 (by omega)).2.2.2.2 with g | g
            · have g1 := g.1
              rw [J.1.2.1] at g1
              omega
            · have := g.1; omega
          refine pk_le 256 (qc_er c 0) (fun hr => ?_) (fun hr => ?_) rfl her (by omega) her2
          · refine nm_r (nI_1 k) ?_
            have := h0 hng
            rw [if_neg (by omega)] at this
            exact this
          · refine nm_r (nI_1 k) ?_
            have := h0 hng
            rw [if_pos (by omega)] at this
            exact this
        · refine nm_r (nI_1 k) ?_
          have := h0 hng
          rw [if_neg (by omega)] at this
          exact this
      · rw [if_neg h16] at h0
        have h32 : 32 ≤ qm_act tb W c := by omega
        rw [zz_s32 h32]
        refine wy_red (post := fun r_77 u => _) ht hw J hP (by omega) (fun hnk => ?_) (fun hk aR aF aL aS aK aC aE aT hP' => ?_)
        · refine nm_r (nI_1 k) ?_
          exact h0 (fun hg => hnk (hg.2.2 (by omega)))
        · refine nm_r (nI_1 k) ?_
          have hn : qm_nx tb W c = qm_rd tb c (qm_act tb W c - 32) (qm_la W c) := by unfold qm_nx; rw [if_neg (by omega)]
          rw [hn] at h1
          exact h1 ⟨hz, h16, fun _ => hk⟩ aR aF aL aS aK aC aE aT hP'
    · have hp : qc_p c < W.2 := by
        rcases hav with g | g | g
        · exact g.2 hz
        · omega
        · omega
      have hn : qm_nx tb W c = qm_sh c (qm_act tb W c) := by unfold qm_nx; rw [if_pos (by omega)]
      have hw16 := hw.1
      rw [hn] at h1
      refine And.intro (pk_in (qc_d c) 16 (by omega)) (nm_r (zz_up _ rfl (by omega) (zz_256 _)) (And.intro (pk_in (qc_d c) 16 (by omega)) (nm_r (zz_up _ rfl (by omega) rfl) (nm_r (nI_1 _) (nm_r (nI_1 _) (nm_r (nI_1 _) ?_))))))
      exact h1 ⟨hz, by omega, fun h => by omega⟩ _ _ _ _ _ _ _ _ (zy_sh hP)
theorem wy_stop {post : Int32 → SY → Prop} {n k v : Nat} (hv : 1 ≤ v ∧ v ≤ 3) (hn : 0 < n) (h : ∃ m : Nat, wY_reparse_335 post m 0 f_greatest f_count f_nodes f_olds f_entries f_pos (nI v) 0 f_parseNumber f_stale a_ruleLhs a_ruleLen a_ruleRhs a_cells a_token a_nodeRule a_nodeFirst a_nodeLast a_nodeBorn a_nodeState a_nodeLook a_nodeChild a_oldRule a_oldFirst a_oldLast a_oldBorn a_oldState a_oldLook a_entryRef a_entryState) : wY_reparse_140 post n (nI k) f_greatest f_count f_nodes f_olds f_entries f_pos (nI v) f_keptNodes f_parseNumber f_stale a_ruleLhs a_ruleLen a_ruleRhs a_cells a_token a_nodeRule a_nodeFirst a_nodeLast a_nodeBorn a_nodeState a_nodeLook a_nodeChild a_oldRule a_oldFirst a_oldLast a_oldBorn a_oldState a_oldLook a_entryRef a_entryState := by
  obtain ⟨n, rfl⟩ : ∃ m, n = m + 1 := ⟨n - 1, by omega⟩
  exact br_c (fun _ => h) (fun _ => pk_eq v 0 (fun hz => by omega) (fun _ => h))
theorem wy_140 {post : Int32 → SY → Prop} {KF : Nat} (ht : zr_t a_ruleLhs a_ruleLen a_ruleRhs a_cells tb) (hw : zr_w a_token W) (hc : f_count = nI W.2) (hG : qm_goes tb W KF) (hH : ¬ qm_go tb W (qm_run tb W KF))
    (hend : ∀ aR aF aL aS aK aC aE aT : Nat → Int32, zy_P tb (qm_run tb W KF) aR aF aL aS aK aC aE aT → ∃ m : Nat, wY_reparse_335 post m 0 f_greatest f_count (nI (qc_n (qm_run tb W KF))) f_olds (nI (qc_d (qm_run tb W KF))) (nI (qc_p (qm_run tb W KF))) (nI (qm_vd tb W (qm_run tb W KF))) 0 f_parseNumber f_stale a_ruleLhs a_ruleLen a_ruleRhs a_cells a_token aR aF aL a_nodeBorn aS aK aC a_oldRule a_oldFirst a_oldLast a_oldBorn a_oldState a_oldLook aE aT) :
    ∀ j k, k + j = KF → ∀ n, j + 1 < n → ∀ aR aF aL aS aK aC aE aT : Nat → Int32, zy_P tb (qm_run tb W k) aR aF aL aS aK aC aE aT → wY_reparse_140 post n (nI k) f_greatest f_count (nI (qc_n (qm_run tb W k))) f_olds (nI (qc_d (qm_run tb W k))) (nI (qc_p (qm_run tb W k))) 0 f_keptNodes f_parseNumber f_stale a_ruleLhs a_ruleLen a_ruleRhs a_cells a_token aR aF aL a_nodeBorn aS aK aC a_oldRule a_oldFirst a_oldLast a_oldBorn a_oldState a_oldLook aE aT := by
  subst hc
  have hv := ht.1
  have hwv := zr_wv hw
  have hK := qm_k140 hv hwv hG
  have hw16 := hw.1
  intro j
  induction j with
  | zero =>
    intro k hk n hn aR aF aL aS aK aC aE aT hP
    obtain ⟨n, rfl⟩ : ∃ m, n = m + 1 := ⟨n - 1, by omega⟩
    have hkK : k = KF := by omega
    subst hkK
    have J := qm_Jk hv hwv k hG
    obtain ⟨_, c2, c3, c4, _⟩ := qj_cnt hv hwv J
    have hpW := J.1.1
    have key : wY_reparse_184 post (wY_reparse_140 post n) (nI k) (nI (qm_top (qm_run tb W k))) (nI (qm_la W (qm_run tb W k))) f_greatest (nI W.2) (nI (qc_n (qm_run tb W k))) f_olds (nI (qc_d (qm_run tb W k))) (nI (qc_p (qm_run tb W k))) 0 f_keptNodes f_parseNumber f_stale a_ruleLhs a_ruleLen a_ruleRhs a_cells a_token aR aF aL a_nodeBorn aS aK aC a_oldRule a_oldFirst a_oldLast a_oldBorn a_oldState a_oldLook aE aT := by
      refine wy_184 ht hw J hP (fun hng => ?_) (fun hg => absurd hg hH)
      exact wy_stop (qm_vd_in _ _ _) (by omega) (hend aR aF aL aS aK aC aE aT hP)
    refine pk_le 160 k (fun h => by omega) (fun _ => ?_)
    refine br_t rfl ?_
    refine wy_top (by omega) (fun e he => (hP.2 e he).2) ?_
    refine pk_eq (qc_p (qm_run tb W k)) W.2 (fun he => ?_) (fun he => ?_)
    · have e7 : qm_la W (qm_run tb W k) = 7 := by unfold qm_la qm_sym; rw [if_neg (by omega)]
      rw [e7] at key
      exact key
    · have hpl : qc_p (qm_run tb W k) < W.2 := by omega
      refine And.intro (pk_in (qc_p (qm_run tb W k)) 16 (by omega)) ?_
      have e7 : a_token (nI (qc_p (qm_run tb W k))).toNatClampNeg = nI (qm_la W (qm_run tb W k)) := by
        rw [zz_at _ rfl (by omega) (hw.2 _ hpl).1]
        unfold qm_la qm_sym; rw [if_pos hpl]
      rw [e7]
      exact key
  | succ j ih =>
    intro k hk n hn aR aF aL aS aK aC aE aT hP
    obtain ⟨n, rfl⟩ : ∃ m, n = m + 1 := ⟨n - 1, by omega⟩
    have J := qm_Jk hv hwv k (qm_goesLe hG (by omega))
    have hgo := hG k (by omega)
    obtain ⟨_, c2, c3, c4, _⟩ := qj_cnt hv hwv J
    have hpW := J.1.1
    have key : wY_reparse_184 post (wY_reparse_140 post n) (nI k) (nI (qm_top (qm_run tb W k))) (nI (qm_la W (qm_run tb W k))) f_greatest (nI W.2) (nI (qc_n (qm_run tb W k))) f_olds (nI (qc_d (qm_run tb W k))) (nI (qc_p (qm_run tb W k))) 0 f_keptNodes f_parseNumber f_stale a_ruleLhs a_ruleLen a_ruleRhs a_cells a_token aR aF aL a_nodeBorn aS aK aC a_oldRule a_oldFirst a_oldLast a_oldBorn a_oldState a_oldLook aE aT := by
      refine wy_184 ht hw J hP (fun hng => absurd hgo hng) (fun _ aR aF aL aS aK aC aE aT hP' => ?_)
      exact ih (k + 1) (by omega) n (by omega) aR aF aL aS aK aC aE aT hP'
    refine pk_le 160 k (fun h => by omega) (fun _ => ?_)
    refine br_t rfl ?_
    refine wy_top (by omega) (fun e he => (hP.2 e he).2) ?_
    refine pk_eq (qc_p (qm_run tb W k)) W.2 (fun he => ?_) (fun he => ?_)
    · have e7 : qm_la W (qm_run tb W k) = 7 := by unfold qm_la qm_sym; rw [if_neg (by omega)]
      rw [e7] at key
      exact key
    · have hpl : qc_p (qm_run tb W k) < W.2 := by omega
      refine And.intro (pk_in (qc_p (qm_run tb W k)) 16 (by omega)) ?_
      have e7 : a_token (nI (qc_p (qm_run tb W k))).toNatClampNeg = nI (qm_la W (qm_run tb W k)) := by
        rw [zz_at _ rfl (by omega) (hw.2 _ hpl).1]
        unfold qm_la qm_sym; rw [if_pos hpl]
      rw [e7]
      exact key
end
end
section
/-- old node i answers to new node x -/
def zm_m (c0 c : qm_C) (FF LL bk : Nat → Nat) (i x : Nat) : Prop := bk i = 0 ∧ qc_R c0 i = qc_R c x ∧ FF i = qc_F c x ∧ LL i = qc_L c x ∧ qc_S c0 i = qc_S c x ∧ qc_K c0 i = qc_K c x
/-- the reference's nodes as they are stored -/
def zr_y (c : qm_C) (n : Nat) (FF LL bk : Nat → Nat) (bn : Nat → Int32) (a_nodeRule a_nodeFirst a_nodeLast a_nodeBorn a_nodeState a_nodeLook : Nat → Int32) : Prop := ∀ i, i < n → a_nodeRule i = nI (qc_R c i) ∧ a_nodeBorn i = bn i ∧ a_nodeState i = nI (qc_S c i) ∧ a_nodeLook i = nI (qc_K c i) ∧ (bk i = 0 → a_nodeFirst i = nI (FF i) ∧ a_nodeLast i = nI (LL i)) ∧ (bk i ≠ 0 → a_nodeFirst i = -1 ∧ a_nodeLast i = -1)
def zc_n (f : Nat → Nat) : Nat → Nat
  | 0 => 0
  | n + 1 => zc_n f n + (if f n = 0 then 0 else 1)
theorem zc_le (f : Nat → Nat) : ∀ n, zc_n f n ≤ n := by
  intro n
  induction n with
  | zero => exact Nat.le_refl _
  | succ n ih =>
    show zc_n f n + (if f n = 0 then 0 else 1) ≤ n + 1
    by_cases h : f n = 0
    · rw [if_pos h]; omega
    · rw [if_neg h]; omega
def zr_sm (c0 c : qm_C) (n : Nat) (FF LL bk : Nat → Nat) : Prop := (∀ i, i < n → qc_R c0 i < 12 ∧ qc_S c0 i < 16 ∧ qc_K c0 i < 12 ∧ (bk i = 0 → FF i < 16 ∧ LL i < 16)) ∧ (∀ x, x < qc_n c → qc_R c x < 12 ∧ qc_S c x < 16 ∧ qc_K c x < 12 ∧ qc_F c x < 16 ∧ qc_L c x < 16)
def zr_bs (src : Nat → Nat) (bn : Nat → Int32) (w : Int32) (x : Nat) : Int32 := if src x = 0 then w else bn (src x - 1)
theorem zz_nm1 {n : Nat} (h : n < 2 ^ 31) : ¬ (-1 : Int32) = nI n := by
  intro e
  have h1 : (-1 : Int32).toInt = (nI n).toInt := by rw [e]
  rw [nI_toInt h] at h1
  have h2 : (-1 : Int32).toInt = -1 := by decide
  omega
section
variable {c0 c : qm_C} {n0 x : Nat} {FF LL bk : Nat → Nat} {bn : Nat → Int32} {f_greatest f_count f_nodes f_olds f_entries f_pos f_result f_keptNodes f_parseNumber f_stale : Int32} {a_ruleLhs a_ruleLen a_ruleRhs a_cells a_token a_nodeRule a_nodeFirst a_nodeLast a_nodeBorn a_nodeState a_nodeLook a_nodeChild a_oldRule a_oldFirst a_oldLast a_oldBorn a_oldState a_oldLook a_entryRef a_entryState : Nat → Int32}
theorem wy_12 {post : SY → Prop} {B1 : Nat → Int32} (hO : zr_y c0 n0 FF LL bk bn a_oldRule a_oldFirst a_oldLast a_oldBorn a_oldState a_oldLook) (hN : a_nodeRule x = nI (qc_R c x) ∧ a_nodeFirst x = nI (qc_F c x) ∧ a_nodeLast x = nI (qc_L c x) ∧ a_nodeState x = nI (qc_S c x) ∧ a_nodeLook x = nI (qc_K c x)) (hS : zr_sm c0 c n0 FF LL bk) (hx : x < qc_n c) (hn0 : n0 ≤ 124) (hx1 : x < 160)
    (hA : (∀ j, j < n0 → ¬ zm_m c0 c FF LL bk j x) → post (f_greatest, f_count, f_nodes, nI n0, f_entries, f_pos, f_result, f_keptNodes, f_parseNumber, f_stale, a_ruleLhs, a_ruleLen, a_ruleRhs, a_cells, a_token, a_nodeRule, a_nodeFirst, a_nodeLast, B1, a_nodeState, a_nodeLook, a_nodeChild, a_oldRule, a_oldFirst, a_oldLast, a_oldBorn, a_oldState, a_oldLook, a_entryRef, a_entryState))
    (hB : ∀ i, i < n0 → zm_m c0 c FF LL bk i x → post (f_greatest, f_count, f_nodes, nI n0, f_entries, f_pos, f_result, f_keptNodes + 1, f_parseNumber, f_stale, a_ruleLhs, a_ruleLen, a_ruleRhs, a_cells, a_token, a_nodeRule, a_nodeFirst, a_nodeLast, upd B1 x (bn i), a_nodeState, a_nodeLook, a_nodeChild, a_oldRule, a_oldFirst, a_oldLast, a_oldBorn, a_oldState, a_oldLook, a_entryRef, a_entryState)) :
    ∀ d i, i + d = n0 → ∀ n, d < n → (∀ j, j < i → ¬ zm_m c0 c FF LL bk j x) → wY_findBorn_12 post (nI x) f_greatest f_count f_nodes (nI n0) f_entries f_pos f_result f_keptNodes f_parseNumber f_stale a_ruleLhs a_ruleLen a_ruleRhs a_cells a_token a_nodeRule a_nodeFirst a_nodeLast B1 a_nodeState a_nodeLook a_nodeChild a_oldRule a_oldFirst a_oldLast a_oldBorn a_oldState a_oldLook a_entryRef a_entryState n (nI i) := by
  obtain ⟨m1, m2, m3, m4, m5⟩ := hN
  have b2 := hS.2 x hx
  intro d
  induction d with
  | zero =>
    intro i hi n hn hj
    obtain ⟨n, rfl⟩ : ∃ m, n = m + 1 := ⟨n - 1, by omega⟩
    refine pk_le n0 i (fun _ => hA (fun j h => hj j (by omega))) (fun h => by omega)
  | succ d ih =>
    intro i hi n hn hj
    obtain ⟨n, rfl⟩ : ∃ m, n = m + 1 := ⟨n - 1, by omega⟩
    have hin : i < n0 := by omega
    obtain ⟨o1, o2, o3, o4, o5, o6⟩ := hO i hin
    have b1 := hS.1 i hin
    have skip : ¬ zm_m c0 c FF LL bk i x → wY_findBorn_12 post (nI x) f_greatest f_count f_nodes (nI n0) f_entries f_pos f_result f_keptNodes f_parseNumber f_stale a_ruleLhs a_ruleLen a_ruleRhs a_cells a_token a_nodeRule a_nodeFirst a_nodeLast B1 a_nodeState a_nodeLook a_nodeChild a_oldRule a_oldFirst a_oldLast a_oldBorn a_oldState a_oldLook a_entryRef a_entryState n (nI (i + 1)) := by
      intro hno
      refine ih (i + 1) (by omega) n (by omega) ?_
      intro j h
      by_cases hji : j = i
      · rw [hji]; exact hno
      · exact hj j (by omega)
    have vi : vp_in (nI i) 160 := pk_in i 160 (by omega)
    have vx : vp_in (nI x) 160 := pk_in x 160 (by omega)
    refine pk_le n0 i (fun h => by omega) (fun _ => ?_)
    refine And.intro vi (And.intro vx ?_)
    refine pk_eq (qc_R c0 i) (qc_R c x) (fun hR => ?_) (fun hR => nm_r (nI_1 i) (skip (fun z => hR z.2.1))) (zz_at i rfl (by omega) o1) (zz_at x rfl (by omega) m1)
    refine And.intro vi (And.intro vx ?_)
    by_cases hb : bk i = 0
    · have o7 := o5 hb
      have b3 := b1.2.2.2 hb
      refine pk_eq (FF i) (qc_F c x) (fun hF => ?_) (fun hF => nm_r (nI_1 i) (skip (fun z => hF z.2.2.1))) (zz_at i rfl (by omega) o7.1) (zz_at x rfl (by omega) m2)
      refine And.intro vi (And.intro vx ?_)
      refine pk_eq (LL i) (qc_L c x) (fun hL => ?_) (fun hL => nm_r (nI_1 i) (skip (fun z => hL z.2.2.2.1))) (zz_at i rfl (by omega) o7.2) (zz_at x rfl (by omega) m3)
      refine And.intro vi (And.intro vx ?_)
      refine pk_eq (qc_S c0 i) (qc_S c x) (fun hSS => ?_) (fun hSS => nm_r (nI_1 i) (skip (fun z => hSS z.2.2.2.2.1))) (zz_at i rfl (by omega) o3) (zz_at x rfl (by omega) m4)
      refine And.intro vi (And.intro vx ?_)
      refine pk_eq (qc_K c0 i) (qc_K c x) (fun hK => ?_) (fun hK => nm_r (nI_1 i) (skip (fun z => hK z.2.2.2.2.2))) (zz_at i rfl (by omega) o4) (zz_at x rfl (by omega) m5)
      refine And.intro vi (And.intro vx (nm_r (zz_up x rfl (by omega) (zz_at i rfl (by omega) o2)) (nm_e ?_)))
      exact hB i hin ⟨hb, hR, hF, hL, hSS, hK⟩
    · have o7 := o6 hb
      refine br_f ?_ (nm_r (nI_1 i) (skip (fun z => hb z.1)))
      rw [zz_at i rfl (by omega) o7.1, zz_at x rfl (by omega) m2]
      exact zz_nm1 (by omega)
/-- each new node's birth -/
theorem wy_fb {post : SY → Prop} {src : Nat → Nat} (hO : zr_y c0 n0 FF LL bk bn a_oldRule a_oldFirst a_oldLast a_oldBorn a_oldState a_oldLook) (hN : a_nodeRule x = nI (qc_R c x) ∧ a_nodeFirst x = nI (qc_F c x) ∧ a_nodeLast x = nI (qc_L c x) ∧ a_nodeState x = nI (qc_S c x) ∧ a_nodeLook x = nI (qc_K c x)) (hS : zr_sm c0 c n0 FF LL bk) (hx : x < qc_n c) (hn0 : n0 ≤ 124) (hx1 : x < 160)
    (hs0 : src x = 0 → ∀ i, i < n0 → ¬ zm_m c0 c FF LL bk i x) (hs1 : src x ≠ 0 → src x - 1 < n0 ∧ zm_m c0 c FF LL bk (src x - 1) x ∧ ∀ i, i < n0 → zm_m c0 c FF LL bk i x → i = src x - 1)
    (h : post (f_greatest, f_count, f_nodes, nI n0, f_entries, f_pos, f_result, f_keptNodes + nI (if src x = 0 then 0 else 1), f_parseNumber, f_stale, a_ruleLhs, a_ruleLen, a_ruleRhs, a_cells, a_token, a_nodeRule, a_nodeFirst, a_nodeLast, upd (upd a_nodeBorn x f_parseNumber) x (zr_bs src bn f_parseNumber x), a_nodeState, a_nodeLook, a_nodeChild, a_oldRule, a_oldFirst, a_oldLast, a_oldBorn, a_oldState, a_oldLook, a_entryRef, a_entryState)) : wpY_findBorn post (f_greatest, f_count, f_nodes, nI n0, f_entries, f_pos, f_result, f_keptNodes, f_parseNumber, f_stale, a_ruleLhs, a_ruleLen, a_ruleRhs, a_cells, a_token, a_nodeRule, a_nodeFirst, a_nodeLast, a_nodeBorn, a_nodeState, a_nodeLook, a_nodeChild, a_oldRule, a_oldFirst, a_oldLast, a_oldBorn, a_oldState, a_oldLook, a_entryRef, a_entryState) (nI x) := by
  refine And.intro (pk_in x 160 hx1) (nm_r (zz_up x rfl (by omega) rfl) ⟨n0 + 1, ?_⟩)
  unfold zr_bs at h
  refine wy_12 (c0 := c0) (c := c) hO hN hS hx hn0 hx1 (fun hno => ?_) (fun i hi hm => ?_) n0 0 (by omega) _ (by omega) (fun j hj => absurd hj (Nat.not_lt_zero _))
  · by_cases hz : src x = 0
    · rw [if_pos hz, if_pos hz] at h
      have e1 : upd (upd a_nodeBorn x f_parseNumber) x f_parseNumber = upd a_nodeBorn x f_parseNumber := by
        funext j; unfold upd; by_cases hj : j = x
        · rw [if_pos hj, if_pos hj]
        · rw [if_neg hj, if_neg hj]
      have e2 : f_keptNodes + nI 0 = f_keptNodes := by rw [nI_0, Int32.add_zero]
      rw [e1, e2] at h
      exact h
    · obtain ⟨k1, k2, _⟩ := hs1 hz
      exact absurd k2 (hno _ k1)
  · by_cases hz : src x = 0
    · exact absurd hm (hs0 hz i hi)
    · obtain ⟨k1, k2, k3⟩ := hs1 hz
      rw [if_neg hz, if_neg hz, ← k3 i hi hm] at h
      exact h
end
section
variable {c0 c : qm_C} {n0 : Nat} {FF LL bk src : Nat → Nat} {bn : Nat → Int32} {f_greatest f_count f_nodes f_olds f_entries f_pos f_result f_keptNodes f_parseNumber f_stale : Int32} {a_ruleLhs a_ruleLen a_ruleRhs a_cells a_token a_nodeRule a_nodeFirst a_nodeLast a_nodeBorn a_nodeState a_nodeLook a_nodeChild a_oldRule a_oldFirst a_oldLast a_oldBorn a_oldState a_oldLook a_entryRef a_entryState : Nat → Int32}
theorem wy_335 {post : Int32 → SY → Prop} (hO : zr_y c0 n0 FF LL bk bn a_oldRule a_oldFirst a_oldLast a_oldBorn a_oldState a_oldLook) (hN : (∀ x, x < qc_n c → a_nodeRule x = nI (qc_R c x) ∧ a_nodeFirst x = nI (qc_F c x) ∧ a_nodeLast x = nI (qc_L c x) ∧ a_nodeState x = nI (qc_S c x) ∧ a_nodeLook x = nI (qc_K c x))) (hS : zr_sm c0 c n0 FF LL bk) (hn0 : n0 ≤ 124) (hn : qc_n c ≤ 124)
    (hs0 : ∀ x, x < qc_n c → src x = 0 → ∀ i, i < n0 → ¬ zm_m c0 c FF LL bk i x) (hs1 : ∀ x, x < qc_n c → src x ≠ 0 → src x - 1 < n0 ∧ zm_m c0 c FF LL bk (src x - 1) x ∧ ∀ i, i < n0 → zm_m c0 c FF LL bk i x → i = src x - 1)
    (h : ∀ B : Nat → Int32, (∀ x, x < qc_n c → B x = zr_bs src bn f_parseNumber x) → post f_result (f_greatest, f_count, nI (qc_n c), nI n0, f_entries, f_pos, f_result, nI (zc_n src (qc_n c)), f_parseNumber, 0, a_ruleLhs, a_ruleLen, a_ruleRhs, a_cells, a_token, a_nodeRule, a_nodeFirst, a_nodeLast, B, a_nodeState, a_nodeLook, a_nodeChild, a_oldRule, a_oldFirst, a_oldLast, a_oldBorn, a_oldState, a_oldLook, a_entryRef, a_entryState)) :
    ∀ d x, x + d = qc_n c → ∀ n, d < n → ∀ B : Nat → Int32, (∀ y, y < x → B y = zr_bs src bn f_parseNumber y) → wY_reparse_335 post n (nI x) f_greatest f_count (nI (qc_n c)) (nI n0) f_entries f_pos f_result (nI (zc_n src x)) f_parseNumber f_stale a_ruleLhs a_ruleLen a_ruleRhs a_cells a_token a_nodeRule a_nodeFirst a_nodeLast B a_nodeState a_nodeLook a_nodeChild a_oldRule a_oldFirst a_oldLast a_oldBorn a_oldState a_oldLook a_entryRef a_entryState := by
  intro d
  induction d with
  | zero =>
    intro x hx n hn' B hB
    obtain ⟨n, rfl⟩ : ∃ m, n = m + 1 := ⟨n - 1, by omega⟩
    have hxc : x = qc_n c := by omega
    subst hxc
    exact pk_le (qc_n c) (qc_n c) (fun _ => h B hB) (fun h => by omega)
  | succ d ih =>
    intro x hx n hn' B hB
    obtain ⟨n, rfl⟩ : ∃ m, n = m + 1 := ⟨n - 1, by omega⟩
    refine pk_le (qc_n c) x (fun h => by omega) (fun _ => ?_)
    refine wy_fb (c0 := c0) (c := c) (src := src) hO (hN x (by omega)) hS (by omega) hn0 (by omega) (hs0 x (by omega)) (hs1 x (by omega)) ?_
    refine nm_r (nI_1 x) ?_
    rw [nI_add]
    refine ih (x + 1) (by omega) n (by omega) _ ?_
    intro y hy
    by_cases hyx : y = x
    · rw [hyx, pk_us]
    · rw [pk_un hyx, pk_un hyx]; exact hB y (by omega)
/-- the records of the nodes before the parse -/
theorem wy_24 {post : Int32 → SY → Prop} (hn0 : n0 ≤ 124) (hO : zr_y c0 n0 FF LL bk bn a_nodeRule a_nodeFirst a_nodeLast a_nodeBorn a_nodeState a_nodeLook)
    (h : ∀ aR aF aL aB aS aK : Nat → Int32, zr_y c0 n0 FF LL bk bn aR aF aL aB aS aK → ∃ m : Nat, wY_reparse_140 post m 0 f_greatest f_count 0 (nI n0) 0 0 0 f_keptNodes f_parseNumber f_stale a_ruleLhs a_ruleLen a_ruleRhs a_cells a_token a_nodeRule a_nodeFirst a_nodeLast a_nodeBorn a_nodeState a_nodeLook a_nodeChild aR aF aL aB aS aK a_entryRef a_entryState) :
    ∀ d i, i + d = n0 → ∀ n, d < n → ∀ aR aF aL aB aS aK : Nat → Int32, zr_y c0 i FF LL bk bn aR aF aL aB aS aK → wY_reparse_24 post f_greatest f_count (nI n0) f_olds f_entries f_pos f_result f_keptNodes f_parseNumber f_stale n (nI i) a_ruleLhs a_ruleLen a_ruleRhs a_cells a_token a_nodeRule a_nodeFirst a_nodeLast a_nodeBorn a_nodeState a_nodeLook a_nodeChild aR aF aL aB aS aK a_entryRef a_entryState := by
  intro d
  induction d with
  | zero =>
    intro i hi n hn aR aF aL aB aS aK hY
    obtain ⟨n, rfl⟩ : ∃ m, n = m + 1 := ⟨n - 1, by omega⟩
    have hin : i = n0 := by omega
    subst hin
    exact pk_le i i (fun _ => h aR aF aL aB aS aK hY) (fun h => by omega)
  | succ d ih =>
    intro i hi n hn aR aF aL aB aS aK hY
    obtain ⟨n, rfl⟩ : ∃ m, n = m + 1 := ⟨n - 1, by omega⟩
    have vi : vp_in (nI i) 160 := pk_in i 160 (by omega)
    have hu : ∀ a b : Nat → Int32, upd a (nI i).toNatClampNeg (b (nI i).toNatClampNeg) = upd a i (b i) := fun a b => zz_up i rfl (by omega) (zz_at i rfl (by omega) rfl)
    refine pk_le n0 i (fun h => by omega) (fun _ => ?_)
    refine And.intro vi (And.intro vi (nm_r (hu _ _) (And.intro vi (And.intro vi (nm_r (hu _ _) (And.intro vi (And.intro vi (nm_r (hu _ _) (And.intro vi (And.intro vi (nm_r (hu _ _) (And.intro vi (And.intro vi (nm_r (hu _ _) (And.intro vi (And.intro vi (nm_r (hu _ _) (nm_r (nI_1 i) ?_))))))))))))))))))
    refine ih (i + 1) (by omega) n (by omega) _ _ _ _ _ _ ?_
    intro j hj
    by_cases hji : j = i
    · rw [hji, pk_us, pk_us, pk_us, pk_us, pk_us, pk_us]
      exact hO i (by omega)
    · rw [pk_un hji, pk_un hji, pk_un hji, pk_un hji, pk_un hji, pk_un hji]
      exact hY j (by omega)
end
section
variable {tb : qm_T} {W : qm_W} {c0 : qm_C} {n0 : Nat} {FF LL bk src : Nat → Nat} {bn : Nat → Int32} {f_greatest f_count f_nodes f_olds f_entries f_pos f_result f_keptNodes f_parseNumber f_stale : Int32} {a_ruleLhs a_ruleLen a_ruleRhs a_cells a_token a_nodeRule a_nodeFirst a_nodeLast a_nodeBorn a_nodeState a_nodeLook a_nodeChild a_oldRule a_oldFirst a_oldLast a_oldBorn a_oldState a_oldLook a_entryRef a_entryState : Nat → Int32}
theorem wy_reparse {post : Int32 → SY → Prop} {KF : Nat} (ht : zr_t a_ruleLhs a_ruleLen a_ruleRhs a_cells tb) (hw : zr_w a_token W) (hc : f_count = nI W.2) (hst : ¬ f_stale = 0) (hn0 : n0 ≤ 124) (hf : f_nodes = nI n0) (hO : zr_y c0 n0 FF LL bk bn a_nodeRule a_nodeFirst a_nodeLast a_nodeBorn a_nodeState a_nodeLook) (hG : qm_goes tb W KF) (hH : ¬ qm_go tb W (qm_run tb W KF)) (hS : zr_sm c0 (qm_run tb W KF) n0 FF LL bk)
    (hs0 : ∀ x, x < qc_n (qm_run tb W KF) → src x = 0 → ∀ i, i < n0 → ¬ zm_m c0 (qm_run tb W KF) FF LL bk i x) (hs1 : ∀ x, x < qc_n (qm_run tb W KF) → src x ≠ 0 → src x - 1 < n0 ∧ zm_m c0 (qm_run tb W KF) FF LL bk (src x - 1) x ∧ ∀ i, i < n0 → zm_m c0 (qm_run tb W KF) FF LL bk i x → i = src x - 1)
    (h : ∀ aR aF aL aB aS aK aC aE aT oR oF oL oB oS oK : Nat → Int32, zy_P tb (qm_run tb W KF) aR aF aL aS aK aC aE aT → (∀ x, x < qc_n (qm_run tb W KF) → aB x = zr_bs src bn (f_parseNumber + 1) x) → post (nI (qm_vd tb W (qm_run tb W KF))) (f_greatest, f_count, nI (qc_n (qm_run tb W KF)), nI n0, nI (qc_d (qm_run tb W KF)), nI (qc_p (qm_run tb W KF)), nI (qm_vd tb W (qm_run tb W KF)), nI (zc_n src (qc_n (qm_run tb W KF))), f_parseNumber + 1, 0, a_ruleLhs, a_ruleLen, a_ruleRhs, a_cells, a_token, aR, aF, aL, aB, aS, aK, aC, oR, oF, oL, oB, oS, oK, aE, aT)) : wpY_reparse post (f_greatest, f_count, f_nodes, f_olds, f_entries, f_pos, f_result, f_keptNodes, f_parseNumber, f_stale, a_ruleLhs, a_ruleLen, a_ruleRhs, a_cells, a_token, a_nodeRule, a_nodeFirst, a_nodeLast, a_nodeBorn, a_nodeState, a_nodeLook, a_nodeChild, a_oldRule, a_oldFirst, a_oldLast, a_oldBorn, a_oldState, a_oldLook, a_entryRef, a_entryState) := by
  subst hf
  have hv := ht.1
  have hwv := zr_wv hw
  have hK := qm_k140 hv hwv hG
  have J := qm_Jk hv hwv KF hG
  obtain ⟨_, c2, c3, c4, _⟩ := qj_cnt hv hwv J
  refine br_f hst (nm_e ⟨n0 + 1, ?_⟩)
  refine wy_24 hn0 hO (fun oR oF oL oB oS oK hY => ⟨KF + 2, ?_⟩) n0 0 (by omega) _ (by omega) _ _ _ _ _ _ (fun j hj => absurd hj (Nat.not_lt_zero _))
  refine wy_140 (tb := tb) (W := W) (KF := KF) ht hw hc hG hH (fun aR aF aL aS aK aC aE aT hP => ⟨qc_n (qm_run tb W KF) + 1, ?_⟩) KF 0 (by omega) _ (by omega) _ _ _ _ _ _ _ _ ⟨fun x hx => absurd hx (Nat.not_lt_zero _), fun x hx => absurd hx (Nat.not_lt_zero _)⟩
  refine wy_335 (c := qm_run tb W KF) (src := src) hY (fun x hx => ?_) hS hn0 c4 hs0 hs1 (fun B hB => ?_) (qc_n (qm_run tb W KF)) 0 (by omega) _ (by omega) _ (fun j hj => absurd hj (Nat.not_lt_zero _))
  · obtain ⟨a1, a2, a3, a4, a5, _⟩ := hP.1 x hx
    exact ⟨a1, a2, a3, a4, a5⟩
  · exact h aR aF aL B aS aK aC aE aT oR oF oL oB oS oK hP hB
end
end
section
/-! the component's pool while a parse runs -/
def zx_3 (c0 c : qm_C) (n0 : Nat) (o ow src rs FF LL bk : Nat → Nat) (x : Nat) (a_numberOf a_nodeReused a_newOrder : Nat → Int32) : Prop := a_newOrder x = nI (ow x) ∧ a_numberOf (ow x) = nI x ∧ (src x = 0 → a_nodeReused (ow x) = 0 ∧ (∀ i, i < n0 → ow x ≠ o i) ∧ ∀ i, i < n0 → ¬ zm_m c0 c FF LL bk i x) ∧ (src x ≠ 0 → src x - 1 < n0 ∧ ow x = o (src x - 1) ∧ rs (src x - 1) = 1 ∧ zm_m c0 c FF LL bk (src x - 1) x)
def zx_5 (n n0 : Nat) (o src rs : Nat → Nat) (i : Nat) (a_numberOf a_nodeReused : Nat → Int32) : Prop := rs i ≤ 1 ∧ a_nodeReused (o i) = nI (rs i) ∧ (rs i = 0 → a_numberOf (o i) = nI i) ∧ (rs i = 1 → ∃ x, x < n ∧ src x = i + 1)
def zx_inj (o : Nat → Nat) (n : Nat) : Prop := ∀ x y, x < n → y < n → o x = o y → x = y
def zx_Q (tb : qm_T) (c0 c : qm_C) (n n0 : Nat) (o ow src rs FF LL bk : Nat → Nat) (bn : Nat → Int32) (pn : Int32) (a_nodeRule a_nodeFirst a_nodeLast a_nodeBorn a_nodeState a_nodeLook a_nodeSize a_nodeBroken a_kids a_numberOf a_nodeReused a_newOrder : Nat → Int32) : Prop := zr_o tb c0 n0 o FF LL bk bn a_nodeRule a_nodeFirst a_nodeLast a_nodeBorn a_nodeState a_nodeLook a_nodeSize a_nodeBroken a_kids ∧ zr_o tb c n ow (qc_F c) (qc_L c) (fun _ => 0) (zr_bs src bn pn) a_nodeRule a_nodeFirst a_nodeLast a_nodeBorn a_nodeState a_nodeLook a_nodeSize a_nodeBroken a_kids ∧ (∀ x, x < n → zx_3 c0 c n0 o ow src rs FF LL bk x a_numberOf a_nodeReused a_newOrder) ∧ zx_inj ow n ∧ (∀ i, i < n0 → zx_5 n n0 o src rs i a_numberOf a_nodeReused)
section
variable {tb : qm_T} {c0 c : qm_C} {n n0 : Nat} {o ow src rs FF LL bk : Nat → Nat} {bn : Nat → Int32} {pn : Int32} {a_nodeRule a_nodeFirst a_nodeLast a_nodeBorn a_nodeState a_nodeLook a_nodeSize a_nodeBroken a_kids a_numberOf a_nodeReused a_newOrder : Nat → Int32}
/-- an old slot that isn't reused yet is none of the new ones -/
theorem zx_old (hQ : zx_Q tb c0 c n n0 o ow src rs FF LL bk bn pn a_nodeRule a_nodeFirst a_nodeLast a_nodeBorn a_nodeState a_nodeLook a_nodeSize a_nodeBroken a_kids a_numberOf a_nodeReused a_newOrder) (hi : zx_inj o n0) {i x : Nat} (h : i < n0) (hr : rs i = 0) (hx : x < n) : ow x ≠ o i := by
  intro he
  obtain ⟨_, _, h0, h1⟩ := hQ.2.2.1 x hx
  by_cases hs : src x = 0
  · exact (h0 hs).2.1 i h he
  · obtain ⟨a1, a2, a3, _⟩ := h1 hs
    rw [a2] at he
    have := hi _ _ a1 h he
    rw [this] at a3
    omega
/-- one more old node goes over -/
theorem zx_app (hQ : zx_Q tb c0 c n n0 o ow src rs FF LL bk bn pn a_nodeRule a_nodeFirst a_nodeLast a_nodeBorn a_nodeState a_nodeLook a_nodeSize a_nodeBroken a_kids a_numberOf a_nodeReused a_newOrder) (hi : zx_inj o n0) {i : Nat} (h : i < n0) (hr : rs i = 0) (how : ow n = o i) (hsr : src n = i + 1) (hm : zm_m c0 c FF LL bk i n) (hB : n + 1 - qc_B c n = i + 1 - qc_B c0 i) (hC : ∀ k, k < qt_ln tb (qc_R c0 i) → (qc_C c0 i k < 256 ∧ qc_C c n k < 256 ∧ ow (qc_C c n k) = o (qc_C c0 i k)) ∨ (256 ≤ qc_C c0 i k ∧ 256 ≤ qc_C c n k)) :
    zx_Q tb c0 c (n + 1) n0 o ow src (qm_up rs i 1) FF LL bk bn pn a_nodeRule a_nodeFirst a_nodeLast a_nodeBorn a_nodeState a_nodeLook a_nodeSize a_nodeBroken a_kids (upd a_numberOf (o i) (nI n)) (upd a_nodeReused (o i) 1) (upd a_newOrder n (nI (o i))) := by
  have hne := fun x => zx_old (x := x) hQ hi h hr
  obtain ⟨q1, q2, q3, q4, q5⟩ := hQ
  obtain ⟨m0, m1, m2, m3, m4, m5⟩ := hm
  refine ⟨q1, ?_, ?_, ?_, ?_⟩
  · intro x hx
    by_cases hxn : x = n
    · rw [hxn, how]
      obtain ⟨s1, s2, s3, s4, s5, s6, s7, s8, s9⟩ := q1 i h
      rw [m0] at s7 s8
      refine ⟨s1, ?_, ?_, ?_, ?_, ?_, s7, ?_, ?_⟩
      · rw [s2, m1]
      · unfold zr_bs; rw [if_neg (by omega), s3, hsr]; rfl
      · rw [s4, m4]
      · rw [s5, m5]
      · rw [s6, hB]
      · intro _; rw [← m2, ← m3]; exact s8 rfl
      · intro k hk
        rw [← m1] at hk
        rw [s9 k hk]
        rcases hC k hk with ⟨g1, g2, g3⟩ | ⟨g1, g2⟩
        · rw [if_pos g1, if_pos g2, g3]
        · rw [if_neg (by omega), if_neg (by omega)]
    · exact q2 x (by omega)
  · intro x hx
    by_cases hxn : x = n
    · rw [hxn]
      refine ⟨?_, ?_, fun hs => by omega, fun _ => ?_⟩
      · rw [pk_us, how]
      · rw [how, pk_us]
      · rw [hsr, Nat.add_sub_cancel, qm_us]
        exact ⟨h, how, rfl, m0, m1, m2, m3, m4, m5⟩
    · have hx' : x < n := by omega
      obtain ⟨a1, a2, a3, a4⟩ := q3 x hx'
      refine ⟨?_, ?_, fun hs => ?_, fun hs => ?_⟩
      · rw [pk_un hxn]; exact a1
      · rw [pk_un (hne x hx')]; exact a2
      · rw [pk_un (hne x hx')]; exact a3 hs
      · obtain ⟨b1, b2, b3, b4⟩ := a4 hs
        have hsi : src x - 1 ≠ i := by intro he; rw [he] at b3; omega
        exact ⟨b1, b2, by rw [qm_un hsi]; exact b3, b4⟩
  · intro x y hx hy hxy
    by_cases hxn : x = n
    · by_cases hyn : y = n
      · omega
      · rw [hxn, how] at hxy; exact absurd hxy.symm (hne y (by omega))
    · by_cases hyn : y = n
      · rw [hyn, how] at hxy; exact absurd hxy (hne x (by omega))
      · exact q4 x y (by omega) (by omega) hxy
  · intro j hj
    by_cases hji : j = i
    · rw [hji]
      refine ⟨?_, ?_, fun hz => ?_, fun _ => ⟨n, by omega, hsr⟩⟩
      · rw [qm_us]; omega
      · rw [qm_us, pk_us]; rfl
      · rw [qm_us] at hz; omega
    · have hoj : o j ≠ o i := fun he => hji (hi _ _ hj h he)
      obtain ⟨a1, a2, a3, a4⟩ := q5 j hj
      refine ⟨?_, ?_, fun hz => ?_, fun hz => ?_⟩
      · rw [qm_un hji]; exact a1
      · rw [qm_un hji, pk_un hoj]; exact a2
      · rw [qm_un hji] at hz; rw [pk_un hoj]; exact a3 hz
      · rw [qm_un hji] at hz
        obtain ⟨x, x1, x2⟩ := a4 hz
        exact ⟨x, by omega, x2⟩
/-- the same pool, seen from a later machine state and with other names beyond n -/
theorem zx_see {c' : qm_C} {ow' src' : Nat → Nat} (hQ : zx_Q tb c0 c n n0 o ow src rs FF LL bk bn pn a_nodeRule a_nodeFirst a_nodeLast a_nodeBorn a_nodeState a_nodeLook a_nodeSize a_nodeBroken a_kids a_numberOf a_nodeReused a_newOrder) (hs : qm_same c c' n) (h1 : ∀ x, x < n → ow' x = ow x) (h2 : ∀ x, x < n → src' x = src x) (hC : ∀ x, x < n → ∀ k, k < qt_ln tb (qc_R c x) → qc_C c x k < 256 → qc_C c x k < n) : zx_Q tb c0 c' n n0 o ow' src' rs FF LL bk bn pn a_nodeRule a_nodeFirst a_nodeLast a_nodeBorn a_nodeState a_nodeLook a_nodeSize a_nodeBroken a_kids a_numberOf a_nodeReused a_newOrder := by
  obtain ⟨q1, q2, q3, q4, q5⟩ := hQ
  refine ⟨q1, ?_, ?_, ?_, ?_⟩
  · intro x hx
    obtain ⟨e1, e2, e3, e4, e5, e6, e7⟩ := hs x hx
    obtain ⟨s1, s2, s3, s4, s5, s6, s7, s8, s9⟩ := q2 x hx
    unfold zr_s
    rw [e1, e2, e3, e4, e5, e6, e7, h1 x hx]
    refine ⟨s1, s2, ?_, s4, s5, s6, s7, s8, ?_⟩
    · rw [s3]; unfold zr_bs; rw [h2 x hx]
    · intro k hk
      rw [s9 k hk]
      by_cases h : qc_C c x k < 256
      · rw [if_pos h, if_pos h, h1 _ (hC x hx k hk h)]
      · rw [if_neg h, if_neg h]
  · intro x hx
    obtain ⟨e1, e2, e3, e4, e5, e6, e7⟩ := hs x hx
    have hm : ∀ i, zm_m c0 c' FF LL bk i x ↔ zm_m c0 c FF LL bk i x := by
      intro i; unfold zm_m; rw [e1, e2, e3, e4, e5]
    obtain ⟨a1, a2, a3, a4⟩ := q3 x hx
    unfold zx_3
    rw [h1 x hx, h2 x hx]
    refine ⟨a1, a2, fun hz => ?_, fun hz => ?_⟩
    · obtain ⟨b1, b2, b3⟩ := a3 hz
      exact ⟨b1, b2, fun i hi hm' => b3 i hi ((hm i).mp hm')⟩
    · obtain ⟨b1, b2, b3, b4⟩ := a4 hz
      exact ⟨b1, b2, b3, (hm _).mpr b4⟩
  · intro x y hx hy hxy
    rw [h1 x hx, h1 y hy] at hxy
    exact q4 x y hx hy hxy
  · intro i hi
    obtain ⟨a1, a2, a3, a4⟩ := q5 i hi
    refine ⟨a1, a2, a3, fun hz => ?_⟩
    obtain ⟨x, x1, x2⟩ := a4 hz
    exact ⟨x, x1, by rw [h2 x x1]; exact x2⟩
/-- one more fresh node -/
theorem zx_new {s r la : Nat} {ch : Nat → Int32} {g0 : Int32} (hv : qm_tv tb) (hQ : zx_Q tb c0 c n n0 o ow src rs FF LL bk bn pn a_nodeRule a_nodeFirst a_nodeLast a_nodeBorn a_nodeState a_nodeLook a_nodeSize a_nodeBroken a_kids a_numberOf a_nodeReused a_newOrder) (hn : n = qc_n c) (hs : s < 248) (hso : ∀ i, i < n0 → s ≠ o i) (hsw : ∀ x, x < n → s ≠ ow x)
    (hl0 : ∀ i, i < n0 → qt_ln tb (qc_R c0 i) ≤ 4) (hl1 : ∀ x, x < n → qt_ln tb (qc_R c x) ≤ 4) (hC : ∀ x, x < n → ∀ k, k < qt_ln tb (qc_R c x) → qc_C c x k < 256 → qc_C c x k < n) (hCn : ∀ k, k < qt_ln tb r → qc_er c (qm_rb tb c r + k) < 256 → qc_er c (qm_rb tb c r + k) < n)
    (hch : ∀ k, k < qt_ln tb r → ch (s * 4 + k) = (if qc_er c (qm_rb tb c r + k) < 256 then nI (ow (qc_er c (qm_rb tb c r + k))) else -1)) (hcu : ∀ j, j < s * 4 ∨ s * 4 + 4 ≤ j → ch j = a_kids j)
    (hno : ∀ i, i < n0 → ¬ zm_m c0 (qm_rd tb c r la) FF LL bk i n) (hg0 : g0 = nI (n + 1 - qc_eb c (qm_rb tb c r))) :
    zx_Q tb c0 (qm_rd tb c r la) (n + 1) n0 o (qm_up ow n s) (qm_up src n 0) rs FF LL bk bn pn (upd a_nodeRule s (nI r)) (upd a_nodeFirst s (nI (qc_ef c (qm_rb tb c r)))) (upd a_nodeLast s (nI (qc_p c - 1))) (upd a_nodeBorn s pn) (upd a_nodeState s (nI (qm_sb c (qm_rb tb c r)))) (upd a_nodeLook s (nI la)) (upd a_nodeSize s g0) (upd a_nodeBroken s 0) ch (upd a_numberOf s (nI n)) (upd a_nodeReused s 0) (upd a_newOrder n (nI s)) := by
  have hsame : qm_same c (qm_rd tb c r la) n := by
    intro x hx
    rw [hn] at hx
    exact ⟨qr_R hx, qr_F hx, qr_L hx, qr_S hx, qr_K hx, qr_B hx, funext fun k => qr_C hx⟩
  have hk4 : ∀ t k, t ≠ s → k < 4 → ch (t * 4 + k) = a_kids (t * 4 + k) := by
    intro t k ht hk
    refine hcu _ ?_
    rcases Nat.lt_or_gt_of_ne ht with h | h
    · left; omega
    · right; omega
  have hQ' : zx_Q tb c0 (qm_rd tb c r la) n n0 o (qm_up ow n s) (qm_up src n 0) rs FF LL bk bn pn a_nodeRule a_nodeFirst a_nodeLast a_nodeBorn a_nodeState a_nodeLook a_nodeSize a_nodeBroken a_kids a_numberOf a_nodeReused a_newOrder := zx_see hQ hsame (fun x hx => qm_un (by omega)) (fun x hx => qm_un (by omega)) hC
  obtain ⟨q1, q2, q3, q4, q5⟩ := hQ'
  have hown : qm_up ow n s n = s := qm_us _ _ _
  have hsw' : ∀ x, x < n → qm_up ow n s x ≠ s := by
    intro x hx; rw [qm_un (by omega)]; exact fun h => hsw x hx h.symm
  refine ⟨?_, ?_, ?_, ?_, ?_⟩
  · intro i hi
    have hne : o i ≠ s := fun h => hso i hi h.symm
    obtain ⟨s1, s2, s3, s4, s5, s6, s7, s8, s9⟩ := q1 i hi
    unfold zr_s
    rw [pk_un hne, pk_un hne, pk_un hne, pk_un hne, pk_un hne, pk_un hne, pk_un hne, pk_un hne]
    refine ⟨s1, s2, s3, s4, s5, s6, s7, s8, ?_⟩
    intro k hk
    rw [hk4 _ _ hne (by have := hl0 i hi; omega)]
    exact s9 k hk
  · intro x hx
    by_cases hxn : x = n
    · rw [hxn, hown]
      unfold zr_s
      rw [pk_us, pk_us, pk_us, pk_us, pk_us, pk_us, pk_us, pk_us]
      have e1 : qc_R (qm_rd tb c r la) n = r := by rw [hn]; exact qr_R1
      have e2 : qc_F (qm_rd tb c r la) n = qc_ef c (qm_rb tb c r) := by rw [hn]; exact qr_F1
      have e3 : qc_L (qm_rd tb c r la) n = qc_p c - 1 := by rw [hn]; exact qr_L1
      have e4 : qc_S (qm_rd tb c r la) n = qm_sb c (qm_rb tb c r) := by rw [hn]; exact qr_S1
      have e5 : qc_K (qm_rd tb c r la) n = la := by rw [hn]; exact qr_K1
      have e6 : qc_B (qm_rd tb c r la) n = qc_eb c (qm_rb tb c r) := by rw [hn]; exact qr_B1
      have e7 : ∀ k, qc_C (qm_rd tb c r la) n k = qc_er c (qm_rb tb c r + k) := by intro k; rw [hn]; exact qr_C1
      rw [e1, e2, e3, e4, e5, e6]
      refine ⟨hs, rfl, ?_, rfl, rfl, hg0, rfl, fun _ => ⟨rfl, rfl⟩, ?_⟩
      · unfold zr_bs; rw [qm_us, if_pos rfl]
      · intro k hk
        rw [hch k hk, e7]
        by_cases h : qc_er c (qm_rb tb c r + k) < 256
        · rw [if_pos h, if_pos h, qm_un (by have := hCn k hk h; omega)]
        · rw [if_neg h, if_neg h]
    · have hx' : x < n := by omega
      have hne := hsw' x hx'
      obtain ⟨s1, s2, s3, s4, s5, s6, s7, s8, s9⟩ := q2 x hx'
      unfold zr_s
      rw [pk_un hne, pk_un hne, pk_un hne, pk_un hne, pk_un hne, pk_un hne, pk_un hne, pk_un hne]
      refine ⟨s1, s2, s3, s4, s5, s6, s7, s8, ?_⟩
      intro k hk
      have e1 := (hsame x hx').1
      rw [hk4 _ _ hne (by have := hl1 x hx'; rw [e1] at hk; omega)]
      exact s9 k hk
  · intro x hx
    by_cases hxn : x = n
    · rw [hxn]
      unfold zx_3
      rw [hown, qm_us, pk_us, pk_us, pk_us]
      exact ⟨rfl, rfl, fun _ => ⟨rfl, hso, hno⟩, fun h => absurd rfl h⟩
    · have hx' : x < n := by omega
      have hne := hsw' x hx'
      have h3 := q3 x hx'
      unfold zx_3 at h3 ⊢
      rw [pk_un hxn, pk_un hne, pk_un hne]
      exact h3
  · intro x y hx hy hxy
    by_cases hxn : x = n
    · by_cases hyn : y = n
      · omega
      · rw [hxn, hown] at hxy; exact absurd hxy.symm (hsw' y (by omega))
    · by_cases hyn : y = n
      · rw [hyn, hown] at hxy; exact absurd hxy (hsw' x (by omega))
      · exact q4 x y (by omega) (by omega) hxy
  · intro i hi
    have hne : o i ≠ s := fun h => hso i hi h.symm
    obtain ⟨a1, a2, a3, a4⟩ := q5 i hi
    unfold zx_5
    rw [pk_un hne, pk_un hne]
    refine ⟨a1, a2, a3, fun hz => ?_⟩
    obtain ⟨x, x1, x2⟩ := a4 hz
    exact ⟨x, by omega, x2⟩
end
end
section
/-- old nodes that are still whole, against the tokens of now -/
def zr_p (W0 W : qm_W) (c0 : qm_C) (n0 : Nat) (FF LL bk : Nat → Nat) : Prop := (∀ i, i < n0 → bk i = 0 → FF i ≤ LL i ∧ LL i < W.2 ∧ FF i + qc_L c0 i = LL i + qc_F c0 i ∧ (∀ q q', qc_F c0 i ≤ q → q ≤ qc_L c0 i → q' + qc_F c0 i = q + FF i → W.1 q' = W0.1 q) ∧ (∀ j, qc_B c0 i ≤ j → j ≤ i → bk j = 0 ∧ FF j + qc_F c0 i = FF i + qc_F c0 j)) ∧ (∀ i j, i < n0 → j < n0 → bk i = 0 → bk j = 0 → FF i = FF j → qc_F c0 i = qc_F c0 j)
def zx_h (n0 : Nat) (o FF bk : Nat → Nat) (a_headAt : Nat → Int32) : Prop := ∀ p, p < 16 → (a_headAt p = -1 ∧ ∀ i, i < n0 → bk i = 0 → FF i ≠ p) ∨ (∃ i, i < n0 ∧ a_headAt p = nI (o i) ∧ bk i = 0 ∧ FF i = p ∧ ∀ j, j < n0 → bk j = 0 → FF j = p → j ≤ i)
/-- what a parse doesn't change -/
def zx_S (n0 : Nat) (o fs : Nat → Nat) (a_freeSlots a_order : Nat → Int32) : Prop := zx_inj o n0 ∧ (∀ i, i < n0 → a_order i = nI (o i)) ∧ (∀ j, j < 248 - n0 → fs j < 248 ∧ a_freeSlots j = nI (fs j) ∧ ∀ i, i < n0 → fs j ≠ o i) ∧ zx_inj fs (248 - n0)
def zx_e (c : qm_C) (ow : Nat → Nat) (a_entryNode a_entryFirst a_entryState : Nat → Int32) : Prop := ∀ e, e < qc_d c → a_entryNode e = (if qc_er c e < 256 then nI (ow (qc_er c e)) else -1) ∧ a_entryFirst e = nI (qc_ef c e) ∧ a_entryState e = nI (qc_es c e)
/-- what the entries below promise: no old node that fits was passed over -/
def zx_E (W : qm_W) (c0 c : qm_C) (n0 : Nat) (rs FF LL bk : Nat → Nat) : Prop := ∀ e, e < qc_d c → ∀ i, i < n0 → bk i = 0 → FF i = qc_ef c e → qc_S c0 i = qm_sb c e → qc_K c0 i = qm_sym W (LL i + 1) → rs i = 1
def zx_D (W : qm_W) (c0 c : qm_C) (n0 : Nat) (ow fs src rs FF LL bk : Nat → Nat) (fc kp : Nat) (a_entryNode a_entryFirst a_entryState : Nat → Int32) : Prop := (∀ j, j < fc → ∀ x, x < qc_n c → fs j ≠ ow x) ∧ fc + n0 + qc_n c = 248 + kp ∧ kp = zc_n rs n0 ∧ kp = zc_n src (qc_n c) ∧ zx_E W c0 c n0 rs FF LL bk ∧ zx_e c ow a_entryNode a_entryFirst a_entryState
section
variable {tb : qm_T} {W : qm_W} {c : qm_C} {ow : Nat → Nat} {f_tokenTotal f_tokenLimit f_freeCount f_storedCount f_newCount f_depth f_pos f_stale f_lastVerdict f_keptCount f_parseNumber : Int32} {a_ruleLhs a_ruleLen a_ruleRhs a_cells a_tokens a_nodeRule a_nodeFirst a_nodeLast a_nodeBorn a_nodeState a_nodeLook a_nodeSize a_numberOf a_nodeBroken a_nodeReused a_kids a_freeSlots a_order a_newOrder a_headAt a_entryNode a_entryFirst a_entryState : Nat → Int32}
theorem wx_top {post : Int32 → Prop} (hd : qc_d c ≤ 16) (hE : zx_e c ow a_entryNode a_entryFirst a_entryState) (h : post (nI (qm_top c))) : wpX_topState post (f_tokenTotal, f_tokenLimit, f_freeCount, f_storedCount, f_newCount, nI (qc_d c), f_pos, f_stale, f_lastVerdict, f_keptCount, f_parseNumber, a_ruleLhs, a_ruleLen, a_ruleRhs, a_cells, a_tokens, a_nodeRule, a_nodeFirst, a_nodeLast, a_nodeBorn, a_nodeState, a_nodeLook, a_nodeSize, a_numberOf, a_nodeBroken, a_nodeReused, a_kids, a_freeSlots, a_order, a_newOrder, a_headAt, a_entryNode, a_entryFirst, a_entryState) := by
  unfold qm_top qm_sb at h
  refine pk_le (qc_d c) 0 (fun h0 => ?_) (fun h0 => ?_)
  · rw [if_pos (by omega)] at h; exact h
  · rw [if_neg (by omega)] at h
    refine And.intro (pk_in (qc_d c - 1) 16 (by omega) (zz_s1 (by omega))) ?_
    rw [zz_at (qc_d c - 1) (zz_s1 (by omega)) (by omega) (hE _ (by omega)).2.2]
    exact h
theorem wx_sym {post : Int32 → Prop} {q : Nat} (hw : zr_w a_tokens W) (hq : q < 2 ^ 31) (h : post (nI (qm_sym W q))) : wpX_symbolAt post (nI W.2, f_tokenLimit, f_freeCount, f_storedCount, f_newCount, f_depth, f_pos, f_stale, f_lastVerdict, f_keptCount, f_parseNumber, a_ruleLhs, a_ruleLen, a_ruleRhs, a_cells, a_tokens, a_nodeRule, a_nodeFirst, a_nodeLast, a_nodeBorn, a_nodeState, a_nodeLook, a_nodeSize, a_numberOf, a_nodeBroken, a_nodeReused, a_kids, a_freeSlots, a_order, a_newOrder, a_headAt, a_entryNode, a_entryFirst, a_entryState) (nI q) := by
  have h16 := hw.1
  unfold qm_sym at h
  refine pk_lt q 0 (fun h0 => by omega) (fun h0 => ?_)
  refine pk_le W.2 q (fun h0 => ?_) (fun h0 => ?_)
  · rw [if_neg (by omega)] at h; exact h
  · rw [if_pos h0] at h
    refine And.intro (pk_in q 16 (by omega)) ?_
    rw [zz_at q rfl (by omega) (hw.2 _ h0).1]
    exact h
theorem wx_esy {post : Int32 → Prop} {e : Nat} {FF LL bk : Nat → Nat} {bn : Nat → Int32} (ht : zr_t a_ruleLhs a_ruleLen a_ruleRhs a_cells tb) (hw : zr_w a_tokens W) (J : qm_J tb W c) (hN : zr_o tb c (qc_n c) ow FF LL bk bn a_nodeRule a_nodeFirst a_nodeLast a_nodeBorn a_nodeState a_nodeLook a_nodeSize a_nodeBroken a_kids) (hE : zx_e c ow a_entryNode a_entryFirst a_entryState) (he : e < qc_d c) (h : post (nI (qm_sy tb W c e))) : wpX_entrySymbol post (f_tokenTotal, f_tokenLimit, f_freeCount, f_storedCount, f_newCount, f_depth, f_pos, f_stale, f_lastVerdict, f_keptCount, f_parseNumber, a_ruleLhs, a_ruleLen, a_ruleRhs, a_cells, a_tokens, a_nodeRule, a_nodeFirst, a_nodeLast, a_nodeBorn, a_nodeState, a_nodeLook, a_nodeSize, a_numberOf, a_nodeBroken, a_nodeReused, a_kids, a_freeSlots, a_order, a_newOrder, a_headAt, a_entryNode, a_entryFirst, a_entryState) (nI e) := by
  obtain ⟨_, c2, c3, c4, _⟩ := qj_cnt ht.1 (zr_wv hw) J
  obtain ⟨e1, e2, _⟩ := hE e he
  unfold qm_sy at h
  rcases (J.1.2.2.2 e he).2.2.2.2 with g | g
  · have hp := (qj_le ht.1 J (e := e) (f := qc_d c) (by omega) (by omega)).2.2 he
    rw [qm_peD] at hp
    have g1 := g.1
    have hpW := J.1.1
    rw [if_neg (by omega)] at h e1
    refine And.intro (pk_in e 16 (by omega)) (nm_r (zz_at e rfl (by omega) e1) (br_f (by decide) ?_))
    have hpe : qc_ef c e = qm_pe c e := (qm_ped he).symm
    refine And.intro (pk_in e 16 (by omega)) ?_
    rw [zz_at e rfl (by omega) e2]
    refine And.intro (pk_in (qc_ef c e) 16 (by omega)) ?_
    rw [zz_at (qc_ef c e) rfl (by omega) (hw.2 _ (by omega)).1]
    rw [show qc_er c e - 256 = qc_ef c e by omega] at h
    exact h
  · have hx := qj_erN J he g
    have hR := (J.2.1 _ hx).1.1
    rw [if_pos g.1] at h e1
    have hs := hN _ hx
    refine And.intro (pk_in e 16 (by omega)) (nm_r (zz_at e rfl (by omega) e1) ?_)
    have hs1 := hs.1
    refine br_t (nI_pos' (by omega)) ?_
    refine And.intro (pk_in (ow (qc_er c e)) 248 hs1) ?_
    rw [zz_at (ow (qc_er c e)) rfl (by omega) hs.2.1]
    refine And.intro (pk_in (qc_R c (qc_er c e)) 12 hR) ?_
    rw [zz_at (qc_R c (qc_er c e)) rfl (by omega) (ht.2.1 _ hR).1]
    exact h
theorem qm_sy31 {e : Nat} (hv : qm_tv tb) (hw : qm_wv W) (J : qm_J tb W c) (he : e < qc_d c) : qm_sy tb W c e ≤ 11 := by
  unfold qm_sy
  rcases (J.1.2.2.2 _ he).2.2.2.2 with g | g
  · have g1 := g.1
    have hp := (qj_le hv J (e := e) (f := qc_d c) (by omega) (by omega)).2.2 he
    rw [qm_peD] at hp
    have hpW := J.1.1
    rw [if_neg (by omega)]
    have := hw.2 (qc_er c e - 256) (by omega)
    omega
  · rw [if_pos g.1]
    exact (qj_lh hv J (qj_erN J he g)).2
theorem wx_hf2 {post : Int32 → Prop} {r : Nat} {FF LL bk : Nat → Nat} {bn : Nat → Int32} (ht : zr_t a_ruleLhs a_ruleLen a_ruleRhs a_cells tb) (hw : zr_w a_tokens W) (J : qm_J tb W c) (hN : zr_o tb c (qc_n c) ow FF LL bk bn a_nodeRule a_nodeFirst a_nodeLast a_nodeBorn a_nodeState a_nodeLook a_nodeSize a_nodeBroken a_kids) (hE : zx_e c ow a_entryNode a_entryFirst a_entryState) (hr : r < 12) (hl : qt_ln tb r ≤ qc_d c)
    (h0 : ¬ (∀ i, i < qt_ln tb r → qm_sy tb W c (qm_rb tb c r + i) = qt_nb tb r i) → post 0) (h1 : (∀ i, i < qt_ln tb r → qm_sy tb W c (qm_rb tb c r + i) = qt_nb tb r i) → post 1) :
    ∀ d i, i + d = qt_ln tb r → ∀ n, d < n → (∀ j, j < i → qm_sy tb W c (qm_rb tb c r + j) = qt_nb tb r j) → wX_handleFits_2 post (nI r) (nI (qm_rb tb c r)) f_tokenTotal f_tokenLimit f_freeCount f_storedCount f_newCount f_depth f_pos f_stale f_lastVerdict f_keptCount f_parseNumber a_ruleLhs a_ruleLen a_ruleRhs a_cells a_tokens a_nodeRule a_nodeFirst a_nodeLast a_nodeBorn a_nodeState a_nodeLook a_nodeSize a_numberOf a_nodeBroken a_nodeReused a_kids a_freeSlots a_order a_newOrder a_headAt a_entryNode a_entryFirst a_entryState n (nI i) := by
  obtain ⟨_, c2, c3, c4, _⟩ := qj_cnt ht.1 (zr_wv hw) J
  have hT := ht.2.1 r hr
  have hbd : qm_rb tb c r + qt_ln tb r = qc_d c := by unfold qm_rb; omega
  have hlen : a_ruleLen (nI r).toNatClampNeg = nI (qt_ln tb r) := zz_at r rfl (by omega) hT.2.2.1
  have hrhs : a_ruleRhs (nI r).toNatClampNeg = a_ruleRhs r := zz_at r rfl (by omega) rfl
  intro d
  induction d with
  | zero =>
    intro i hi n hn hs
    obtain ⟨n, rfl⟩ : ∃ m, n = m + 1 := ⟨n - 1, by omega⟩
    unfold wX_handleFits_2
    rw [hlen]
    exact And.intro (pk_in r 12 hr) (pk_le (qt_ln tb r) i (fun _ => h1 (fun j hj => hs j (by omega))) (fun h => by omega))
  | succ d ih =>
    intro i hi n hn hs
    obtain ⟨n, rfl⟩ : ∃ m, n = m + 1 := ⟨n - 1, by omega⟩
    have hnb := hT.2.2.2.2 i (by omega)
    unfold wX_handleFits_2
    rw [hlen, hrhs]
    refine And.intro (pk_in r 12 hr) (pk_le (qt_ln tb r) i (fun h => by omega) (fun _ => And.intro (pk_in r 12 hr) (nm_r hnb.1 ?_)))
    rw [nI_add]
    refine wx_esy ht hw J hN hE (by omega) ?_
    have h11 := qm_sy31 ht.1 (zr_wv hw) J (e := qm_rb tb c r + i) (by omega)
    refine pk_eq (qm_sy tb W c (qm_rb tb c r + i)) (qt_nb tb r i) (fun he => ?_) (fun he => ?_)
    · refine nm_r (nI_1 i) ?_
      refine ih (i + 1) (by omega) n (by omega) ?_
      intro j hj
      by_cases hji : j = i
      · rw [hji]; exact he
      · exact hs j (by omega)
    · exact h0 (fun hk => he (hk i (by omega)))
theorem wx_app {post : SX → Prop} {n s : Nat} (hn : n < 124) (hs : s < 248) (h : post (f_tokenTotal, f_tokenLimit, f_freeCount, f_storedCount, nI (n + 1), f_depth, f_pos, f_stale, f_lastVerdict, f_keptCount, f_parseNumber, a_ruleLhs, a_ruleLen, a_ruleRhs, a_cells, a_tokens, a_nodeRule, a_nodeFirst, a_nodeLast, a_nodeBorn, a_nodeState, a_nodeLook, a_nodeSize, upd a_numberOf s (nI n), a_nodeBroken, a_nodeReused, a_kids, a_freeSlots, a_order, upd a_newOrder n (nI s), a_headAt, a_entryNode, a_entryFirst, a_entryState)) : wpX_appendNew post (f_tokenTotal, f_tokenLimit, f_freeCount, f_storedCount, nI n, f_depth, f_pos, f_stale, f_lastVerdict, f_keptCount, f_parseNumber, a_ruleLhs, a_ruleLen, a_ruleRhs, a_cells, a_tokens, a_nodeRule, a_nodeFirst, a_nodeLast, a_nodeBorn, a_nodeState, a_nodeLook, a_nodeSize, a_numberOf, a_nodeBroken, a_nodeReused, a_kids, a_freeSlots, a_order, a_newOrder, a_headAt, a_entryNode, a_entryFirst, a_entryState) (nI s) := by
  refine pk_lt n 124 (fun _ => ?_) (fun h => by omega)
  exact And.intro (pk_in n 124 hn) (nm_r (zz_up n rfl (by omega) rfl) (And.intro (pk_in s 248 hs) (nm_r (zz_up s rfl (by omega) rfl) (nm_r (nI_1 n) h))))
theorem wx_push {post : SX → Prop} {d : Nat} {x y z : Int32} (hd : d < 16) (h : post (f_tokenTotal, f_tokenLimit, f_freeCount, f_storedCount, f_newCount, nI (d + 1), f_pos, f_stale, f_lastVerdict, f_keptCount, f_parseNumber, a_ruleLhs, a_ruleLen, a_ruleRhs, a_cells, a_tokens, a_nodeRule, a_nodeFirst, a_nodeLast, a_nodeBorn, a_nodeState, a_nodeLook, a_nodeSize, a_numberOf, a_nodeBroken, a_nodeReused, a_kids, a_freeSlots, a_order, a_newOrder, a_headAt, upd a_entryNode d x, upd a_entryFirst d y, upd a_entryState d z)) : wpX_push post (f_tokenTotal, f_tokenLimit, f_freeCount, f_storedCount, f_newCount, nI d, f_pos, f_stale, f_lastVerdict, f_keptCount, f_parseNumber, a_ruleLhs, a_ruleLen, a_ruleRhs, a_cells, a_tokens, a_nodeRule, a_nodeFirst, a_nodeLast, a_nodeBorn, a_nodeState, a_nodeLook, a_nodeSize, a_numberOf, a_nodeBroken, a_nodeReused, a_kids, a_freeSlots, a_order, a_newOrder, a_headAt, a_entryNode, a_entryFirst, a_entryState) x y z := by
  refine pk_lt d 16 (fun _ => ?_) (fun h => by omega)
  exact And.intro (pk_in d 16 hd) (nm_r (zz_up d rfl (by omega) rfl) (And.intro (pk_in d 16 hd) (nm_r (zz_up d rfl (by omega) rfl) (And.intro (pk_in d 16 hd) (nm_r (zz_up d rfl (by omega) rfl) (nm_r (nI_1 d) h))))))
theorem wx_26 {post : Int32 → SX → Prop} {r s : Nat} {FF LL bk : Nat → Nat} {bn : Nat → Int32} {k0 : Nat → Int32} (ht : zr_t a_ruleLhs a_ruleLen a_ruleRhs a_cells tb) (hw : zr_w a_tokens W) (J : qm_J tb W c) (hN : zr_o tb c (qc_n c) ow FF LL bk bn a_nodeRule a_nodeFirst a_nodeLast a_nodeBorn a_nodeState a_nodeLook a_nodeSize a_nodeBroken k0) (hE : zx_e c ow a_entryNode a_entryFirst a_entryState) (hr : r < 12) (hk : qm_rok tb W c r) (hs : s < 248) (hn : qc_n c < 124)
    (h : ∀ ch : Nat → Int32, (∀ k, k < qt_ln tb r → ch (s * 4 + k) = (if qc_er c (qm_rb tb c r + k) < 256 then nI (ow (qc_er c (qm_rb tb c r + k))) else -1)) → (∀ j, j < s * 4 ∨ s * 4 + 4 ≤ j → ch j = k0 j) → post (nI s) (f_tokenTotal, f_tokenLimit, f_freeCount, f_storedCount, nI (qc_n c + 1), f_depth, nI (qc_p c), f_stale, f_lastVerdict, f_keptCount, f_parseNumber, a_ruleLhs, a_ruleLen, a_ruleRhs, a_cells, a_tokens, upd a_nodeRule s (nI r), upd a_nodeFirst s (nI (qc_ef c (qm_rb tb c r))), upd a_nodeLast s (nI (qc_p c - 1)), upd a_nodeBorn s f_parseNumber, a_nodeState, a_nodeLook, upd a_nodeSize s (nI (qc_n c + 1 - qc_eb c (qm_rb tb c r))), upd a_numberOf s (nI (qc_n c)), upd a_nodeBroken s 0, upd a_nodeReused s 0, ch, a_freeSlots, a_order, upd a_newOrder (qc_n c) (nI s), a_headAt, a_entryNode, a_entryFirst, a_entryState)) :
    ∀ d i, i + d = qt_ln tb r → ∀ n, d < n → ∀ ch : Nat → Int32, (∀ k, k < i → ch (s * 4 + k) = (if qc_er c (qm_rb tb c r + k) < 256 then nI (ow (qc_er c (qm_rb tb c r + k))) else -1)) → (∀ j, j < s * 4 ∨ s * 4 + 4 ≤ j → ch j = k0 j) → wX_makeNode_26 post (nI r) (nI (qm_rb tb c r)) (nI s) f_tokenTotal f_tokenLimit f_freeCount f_storedCount (nI (qc_n c)) f_depth (nI (qc_p c)) f_stale f_lastVerdict f_keptCount f_parseNumber n (nI (1 + (qm_be c (qm_rb tb c r + i) - qm_be c (qm_rb tb c r)))) (nI i) a_ruleLhs a_ruleLen a_ruleRhs a_cells a_tokens a_nodeRule a_nodeFirst a_nodeLast a_nodeBorn a_nodeState a_nodeLook a_nodeSize a_numberOf a_nodeBroken a_nodeReused ch a_freeSlots a_order a_newOrder a_headAt a_entryNode a_entryFirst a_entryState := by
  obtain ⟨_, c2, c3, c4, _⟩ := qj_cnt ht.1 (zr_wv hw) J
  have hv := ht.1
  have hT := ht.2.1 r hr
  have hl0 := hk.1
  have hl1 := hk.2.1
  have hb : qm_rb tb c r < qc_d c := by unfold qm_rb; omega
  have hbd : qm_rb tb c r + qt_ln tb r = qc_d c := by unfold qm_rb; omega
  have hlen : a_ruleLen (nI r).toNatClampNeg = nI (qt_ln tb r) := zz_at r rfl (by omega) hT.2.2.1
  have hpp := (qj_le hv J (e := qm_rb tb c r) (f := qc_d c) (by omega) (by omega)).2.2 hb
  rw [qm_peD] at hpp
  have vs : vp_in (nI s) 248 := pk_in s 248 hs
  intro d
  induction d with
  | zero =>
    intro i hi n hn' ch h1 h2
    obtain ⟨n, rfl⟩ : ∃ m, n = m + 1 := ⟨n - 1, by omega⟩
    have hie : i = qt_ln tb r := by omega
    have hsz : 1 + (qm_be c (qm_rb tb c r + i) - qm_be c (qm_rb tb c r)) = qc_n c + 1 - qc_eb c (qm_rb tb c r) := by
      rw [hie, hbd, qm_beD, qm_bed hb]
      have := qj_beN J (qc_d c - qm_rb tb c r) (qm_rb tb c r) (by omega)
      rw [qm_bed hb] at this
      omega
    unfold wX_makeNode_26
    rw [hlen, hsz]
    refine And.intro (pk_in r 12 hr) (pk_le (qt_ln tb r) i (fun _ => ?_) (fun h => by omega))
    refine And.intro vs (nm_r (zz_up s rfl (by omega) rfl) (And.intro (pk_in (qm_rb tb c r) 16 (by omega)) (And.intro vs (nm_r (zz_up s rfl (by omega) (zz_at _ rfl (by omega) (hE _ hb).2.1)) (And.intro vs (nm_r (zz_up s rfl (by omega) (zz_s1 (by omega))) (And.intro vs (nm_r (zz_up s rfl (by omega) rfl) (And.intro vs (nm_r (zz_up s rfl (by omega) rfl) (And.intro vs (nm_r (zz_up s rfl (by omega) zz_b0) (And.intro vs (nm_r (zz_up s rfl (by omega) zz_b0) ?_))))))))))))))
    refine wx_app hn hs ?_
    exact h ch (fun k hk => h1 k (by omega)) h2
  | succ d ih =>
    intro i hi n hn' ch h1 h2
    obtain ⟨n, rfl⟩ : ∃ m, n = m + 1 := ⟨n - 1, by omega⟩
    have he : qm_rb tb c r + i < qc_d c := by omega
    obtain ⟨e1, _, _⟩ := hE _ he
    have hm0 := (qj_le hv J (e := qm_rb tb c r) (f := qm_rb tb c r + i) (by omega) (by omega)).2.1
    have hmN := qj_beN J (qc_d c - (qm_rb tb c r + i + 1)) (qm_rb tb c r + i + 1) (by omega)
    unfold wX_makeNode_26
    rw [hlen]
    refine And.intro (pk_in r 12 hr) (pk_le (qt_ln tb r) i (fun h => by omega) (fun _ => ?_))
    rw [nI_add, zz_m4]
    refine And.intro (pk_in (qm_rb tb c r + i) 16 (by omega)) (nm_r (zz_at _ rfl (by omega) e1) (And.intro (pk_in (s * 4 + i) 992 (by omega)) (nm_r (zz_up (s * 4 + i) rfl (by omega) rfl) ?_)))
    have g1 : ∀ k, k < i + 1 → upd ch (s * 4 + i) (if qc_er c (qm_rb tb c r + i) < 256 then nI (ow (qc_er c (qm_rb tb c r + i))) else -1) (s * 4 + k) = (if qc_er c (qm_rb tb c r + k) < 256 then nI (ow (qc_er c (qm_rb tb c r + k))) else -1) := by
      intro k hk'
      by_cases hki : k = i
      · rw [hki, pk_us]
      · rw [pk_un (by omega)]; exact h1 k (by omega)
    have g2 : ∀ j, j < s * 4 ∨ s * 4 + 4 ≤ j → upd ch (s * 4 + i) (if qc_er c (qm_rb tb c r + i) < 256 then nI (ow (qc_er c (qm_rb tb c r + i))) else -1) j = k0 j := by
      intro j hj
      rw [pk_un (by omega)]; exact h2 j hj
    have nxt := ih (i + 1) (by omega) n (by omega) _ g1 g2
    rcases (J.1.2.2.2 _ he).2.2.2.2 with g | g
    · have q1 := g.1
      have q3 := g.2.2
      rw [show qm_rb tb c r + (i + 1) = qm_rb tb c r + i + 1 by omega, q3] at nxt
      rw [if_neg (by omega)] at nxt ⊢
      exact br_t (by decide) (nm_r (nI_1 i) nxt)
    · have hx := qj_erN J he g
      have hsl := hN _ hx
      obtain ⟨q1, q2, q3, q4, q5, q6, q7⟩ := g
      have hsl1 := hsl.1
      have hse : nI (1 + (qm_be c (qm_rb tb c r + i) - qm_be c (qm_rb tb c r))) + nI (qc_er c (qm_rb tb c r + i) + 1 - qc_B c (qc_er c (qm_rb tb c r + i))) = nI (1 + (qm_be c (qm_rb tb c r + (i + 1)) - qm_be c (qm_rb tb c r))) := by
        rw [nI_add, q5, q2]
        congr 1
        rw [show qm_rb tb c r + (i + 1) = qm_rb tb c r + i + 1 by omega]
        omega
      rw [if_pos q1] at nxt ⊢
      refine pk_lt (ow (qc_er c (qm_rb tb c r + i))) 0 (fun h => by omega) (fun _ => ?_)
      refine And.intro (pk_in (ow (qc_er c (qm_rb tb c r + i))) 248 hsl1) ?_
      rw [zz_at _ rfl (by omega) hsl.2.2.2.2.2.1, hse]
      exact nm_e (nm_r (nI_1 i) nxt)
end
end
section
theorem zc_congr {f g : Nat → Nat} : ∀ n, (∀ x, x < n → f x = g x) → zc_n f n = zc_n g n := by
  intro n
  induction n with
  | zero => intro _; rfl
  | succ n ih =>
    intro h
    show zc_n f n + (if f n = 0 then 0 else 1) = zc_n g n + (if g n = 0 then 0 else 1)
    rw [ih (fun x hx => h x (by omega)), h n (by omega)]
section
variable {tb : qm_T} {W0 W : qm_W} {c0 c : qm_C} {n0 fc kp : Nat} {o ow fs src rs FF LL bk : Nat → Nat} {bn : Nat → Int32} {pn : Int32} {f_tokenTotal f_tokenLimit f_freeCount f_storedCount f_newCount f_depth f_pos f_stale f_lastVerdict f_keptCount f_parseNumber : Int32} {a_ruleLhs a_ruleLen a_ruleRhs a_cells a_tokens a_nodeRule a_nodeFirst a_nodeLast a_nodeBorn a_nodeState a_nodeLook a_nodeSize a_numberOf a_nodeBroken a_nodeReused a_kids a_freeSlots a_order a_newOrder a_headAt a_entryNode a_entryFirst a_entryState : Nat → Int32}
theorem zx_nomatch {r : Nat} (hv : qm_tv tb) (hw : qm_wv W) (J : qm_J tb W c) (hr : r < 12) (hk : qm_rok tb W c r) (hQ : zx_Q tb c0 c (qc_n c) n0 o ow src rs FF LL bk bn pn a_nodeRule a_nodeFirst a_nodeLast a_nodeBorn a_nodeState a_nodeLook a_nodeSize a_nodeBroken a_kids a_numberOf a_nodeReused a_newOrder) (hE : zx_E W c0 c n0 rs FF LL bk) : ∀ i, i < n0 → ¬ zm_m c0 (qm_rd tb c r (qm_la W c)) FF LL bk i (qc_n c) := by
  intro i hi ⟨m0, m1, m2, m3, m4, m5⟩
  have hb : qm_rb tb c r < qc_d c := by
    have := hk.1; have := hk.2.1; unfold qm_rb; omega
  have hpp := (qj_le hv J (e := qm_rb tb c r) (f := qc_d c) (by omega) (by omega)).2.2 hb
  rw [qm_peD] at hpp
  rw [qr_R1] at m1
  rw [qr_F1] at m2
  rw [qr_L1] at m3
  rw [qr_S1] at m4
  rw [qr_K1] at m5
  have hrs := hE _ hb i hi m0 m2 m4 (by rw [m5, m3, show qc_p c - 1 + 1 = qc_p c by omega]; rfl)
  obtain ⟨x, x1, x2⟩ := (hQ.2.2.2.2 i hi).2.2.2 hrs
  obtain ⟨_, _, _, a4⟩ := hQ.2.2.1 x x1
  obtain ⟨_, _, _, z0, z1, z2, z3, _⟩ := a4 (by omega)
  rw [show src x - 1 = i by omega] at z1 z2 z3
  have J' := qr_J hv hw hr J hk
  have hP := J'.2.2.2.2 (qc_n c) x x1 (Nat.lt_succ_self _) (by rw [qr_F x1, qr_F1, ← z2, m2])
  have h4 := hP.2.2.2 (by rw [qr_L x1, qr_L1, ← z3, m3])
  rw [qr_R1, qr_R x1, ← z1, m1] at h4
  exact Nat.lt_irrefl _ h4
theorem wx_59 {post : Int32 → SX → Prop} {r : Nat} {z : Int32} (hz : z = nI (qm_sb c (qm_rb tb c r))) (ht : zr_t a_ruleLhs a_ruleLen a_ruleRhs a_cells tb) (hw : zr_w a_tokens W) (J : qm_J tb W c) (hn0 : n0 ≤ 124) (hl4 : ∀ i, i < n0 → qt_ln tb (qc_R c0 i) ≤ 4) (hS : zx_S n0 o fs a_freeSlots a_order) (hQ : zx_Q tb c0 c (qc_n c) n0 o ow src rs FF LL bk bn pn a_nodeRule a_nodeFirst a_nodeLast a_nodeBorn a_nodeState a_nodeLook a_nodeSize a_nodeBroken a_kids a_numberOf a_nodeReused a_newOrder) (hD : zx_D W c0 c n0 ow fs src rs FF LL bk fc kp a_entryNode a_entryFirst a_entryState) (hr : r < 12) (hl0 : qt_ln tb r ≠ 0) (hl1 : qt_ln tb r ≤ qc_d c) (hs : ∀ i, i < qt_ln tb r → qm_sy tb W c (qm_rb tb c r + i) = qt_nb tb r i)
    (h0 : ¬ qm_rok tb W c r → post 3 (nI W.2, f_tokenLimit, nI fc, nI n0, nI (qc_n c), nI (qc_d c), nI (qc_p c), f_stale, f_lastVerdict, nI kp, pn, a_ruleLhs, a_ruleLen, a_ruleRhs, a_cells, a_tokens, a_nodeRule, a_nodeFirst, a_nodeLast, a_nodeBorn, a_nodeState, a_nodeLook, a_nodeSize, a_numberOf, a_nodeBroken, a_nodeReused, a_kids, a_freeSlots, a_order, a_newOrder, a_headAt, a_entryNode, a_entryFirst, a_entryState))
    (h1 : qm_rok tb W c r → ∀ (fc' : Nat) (ow' src' : Nat → Nat) (v1 v2 v3 v4 v5 v6 v7 v8 v9 v10 v11 v12 v13 v14 v15 : Nat → Int32), zx_Q tb c0 (qm_rd tb c r (qm_la W c)) (qc_n c + 1) n0 o ow' src' rs FF LL bk bn pn v1 v2 v3 v4 v5 v6 v7 v8 v9 v10 v11 v12 → zx_D W c0 (qm_rd tb c r (qm_la W c)) n0 ow' fs src' rs FF LL bk fc' kp v13 v14 v15 → post 0 (nI W.2, f_tokenLimit, nI fc', nI n0, nI (qc_n c + 1), nI (qm_rb tb c r + 1), nI (qc_p c), f_stale, f_lastVerdict, nI kp, pn, a_ruleLhs, a_ruleLen, a_ruleRhs, a_cells, a_tokens, v1, v2, v3, v4, v5, v6, v7, v10, v8, v11, v9, a_freeSlots, a_order, v12, a_headAt, v13, v14, v15)) :
    wX_reduce_59 post (nI r) (nI (qm_la W c)) (nI (qm_rb tb c r)) z (nI W.2) f_tokenLimit (nI fc) (nI n0) (nI (qc_n c)) (nI (qc_d c)) (nI (qc_p c)) f_stale f_lastVerdict (nI kp) pn a_ruleLhs a_ruleLen a_ruleRhs a_cells a_tokens a_nodeRule a_nodeFirst a_nodeLast a_nodeBorn a_nodeState a_nodeLook a_nodeSize a_numberOf a_nodeBroken a_nodeReused a_kids a_freeSlots a_order a_newOrder a_headAt a_entryNode a_entryFirst a_entryState := by
  subst hz
  have hv := ht.1
  have hwv := zr_wv hw
  obtain ⟨_, c2, c3, c4, _⟩ := qj_cnt hv hwv J
  have hlt := hv.1 r hr hl0
  have hb : qm_rb tb c r < qc_d c := by unfold qm_rb; omega
  have hbd : qm_rb tb c r + qt_ln tb r = qc_d c := by unfold qm_rb; omega
  have hsb := qj_top J (e := qm_rb tb c r) (by omega)
  have hlh : a_ruleLhs (nI r).toNatClampNeg = nI (qt_lh tb r) := zz_at r rfl (by omega) (ht.2.1 r hr).1
  have hce := ht.2.2 (qm_sb c (qm_rb tb c r) * 12 + qt_lh tb r) (by omega)
  unfold wX_reduce_59
  rw [hlh, zz_m12]
  refine And.intro (pk_in r 12 hr) (And.intro (pk_in (qm_sb c (qm_rb tb c r) * 12 + qt_lh tb r) 192 (by omega)) (nm_r (zz_at _ rfl (by omega) hce.1) ?_))
  refine pk_eq (qt_ce tb (qm_sb c (qm_rb tb c r) * 12 + qt_lh tb r)) 0 (fun hz => h0 (fun hk => hk.2.2.2 hz)) (fun hz => ?_)
  have hk : qm_rok tb W c r := ⟨hl0, hl1, hs, hz⟩
  have J' := qr_J hv hwv hr J hk
  have hn124 : qc_n c + 1 ≤ 124 := (qj_cnt hv hwv J').2.2.2.1
  obtain ⟨d1, d2, d3, d4, d5, d6⟩ := hD
  have hkp := zc_le src (qc_n c)
  refine pk_lt 0 fc (fun hfc => ?_) (fun hfc => by omega)
  have hfs := hS.2.2.1 (fc - 1) (by omega)
  have hno := zx_nomatch hv hwv J hr hk hQ d5
  refine nm_r (zz_s1 (by omega)) (And.intro (pk_in (fc - 1) 248 (by omega)) (nm_r (zz_at _ rfl (by omega) hfs.2.1) ⟨qt_ln tb r + 1, ?_⟩))
  have e1 : nI (1 + (qm_be c (qm_rb tb c r + 0) - qm_be c (qm_rb tb c r))) = 1 := by rw [Nat.add_zero, Nat.sub_self]; rfl
  rw [← e1]
  refine wx_26 (s := fs (fc - 1)) (k0 := a_kids) ht hw J hQ.2.1 d6 hr hk hfs.1 (by omega) (fun ch g1 g2 => ?_) (qt_ln tb r) 0 (by omega) _ (by omega) _ (fun k hk => absurd hk (Nat.not_lt_zero _)) (fun j _ => rfl)
  have vs : vp_in (nI (fs (fc - 1))) 248 := pk_in (fs (fc - 1)) 248 hfs.1
  refine And.intro vs (nm_r (zz_up (fs (fc - 1)) rfl (by omega) rfl) (And.intro vs (nm_r (zz_up (fs (fc - 1)) rfl (by omega) rfl) (And.intro vs ?_))))
  rw [zz_at (fs (fc - 1)) rfl (by omega) pk_us]
  refine wx_push (d := qm_rb tb c r) (by omega) ?_
  refine h1 hk (fc - 1) (qm_up ow (qc_n c) (fs (fc - 1))) (qm_up src (qc_n c) 0) _ _ _ _ _ _ _ _ _ _ _ _ _ _ _ (zx_new hv hQ rfl hfs.1 hfs.2.2 (fun x hx => d1 _ (by omega) x hx) hl4 ?_ ?_ ?_ g1 g2 hno rfl) ⟨?_, ?_, d3, ?_, ?_, ?_⟩
  · intro x hx; exact (ht.2.1 _ (J.2.1 x hx).1.1).2.2.2.1
  · intro x hx k hk' hc
    rcases (J.2.1 x hx).2.1 k hk' with g | g
    · rw [g.1] at hc; omega
    · omega
  · intro k hk' hc
    rcases (J.1.2.2.2 (qm_rb tb c r + k) (by omega)).2.2.2.2 with g | g
    · rw [g.1] at hc; omega
    · exact qj_erN J (by omega) g
  · intro j hj x hx
    have hx1 : x < qc_n c + 1 := hx
    by_cases hxn : x = qc_n c
    · rw [hxn, qm_us]
      intro he
      have := hS.2.2.2 j (fc - 1) (by omega) (by omega) he
      omega
    · rw [qm_un hxn]; exact d1 j (by omega) x (by omega)
  · show fc - 1 + n0 + (qc_n c + 1) = 248 + kp; omega
  · show kp = zc_n (qm_up src (qc_n c) 0) (qc_n c) + (if qm_up src (qc_n c) 0 (qc_n c) = 0 then 0 else 1)
    rw [qm_us, if_pos rfl, Nat.add_zero, zc_congr (g := src) (qc_n c) (fun x hx => qm_un (by omega))]
    exact d4
  · intro e he i hi b1 b2 b3 b4
    have he1 : e < qm_rb tb c r + 1 := he
    rw [qr_sb (by omega)] at b3
    exact d5 e (by omega) i hi b1 b2 b3 b4
  · intro e he
    have he1 : e < qm_rb tb c r + 1 := he
    have hef : qc_ef (qm_rd tb c r (qm_la W c)) e = qc_ef c e := rfl
    rw [hef]
    by_cases heb : e = qm_rb tb c r
    · rw [heb, qr_er1, qr_es1, if_pos (by omega), qm_us, pk_us, pk_us, pk_us]
      exact ⟨rfl, rfl, rfl⟩
    · obtain ⟨k1, k2, k3⟩ := d6 e (by omega)
      rw [qr_er (by omega), qr_es (by omega), pk_un heb, pk_un heb, pk_un heb, k1]
      refine ⟨?_, k2, k3⟩
      by_cases hc : qc_er c e < 256
      · rw [if_pos hc, if_pos hc]
        rcases (J.1.2.2.2 e (by omega)).2.2.2.2 with g | g
        · rw [g.1] at hc; omega
        · rw [qm_un (by have := qj_erN J (e := e) (by omega) g; omega)]
      · rw [if_neg hc, if_neg hc]
theorem wx_red {post : Int32 → SX → Prop} {r : Nat} (ht : zr_t a_ruleLhs a_ruleLen a_ruleRhs a_cells tb) (hw : zr_w a_tokens W) (J : qm_J tb W c) (hn0 : n0 ≤ 124) (hl4 : ∀ i, i < n0 → qt_ln tb (qc_R c0 i) ≤ 4) (hS : zx_S n0 o fs a_freeSlots a_order) (hQ : zx_Q tb c0 c (qc_n c) n0 o ow src rs FF LL bk bn pn a_nodeRule a_nodeFirst a_nodeLast a_nodeBorn a_nodeState a_nodeLook a_nodeSize a_nodeBroken a_kids a_numberOf a_nodeReused a_newOrder) (hD : zx_D W c0 c n0 ow fs src rs FF LL bk fc kp a_entryNode a_entryFirst a_entryState) (hr : r < 12)
    (h0 : ¬ qm_rok tb W c r → post 3 (nI W.2, f_tokenLimit, nI fc, nI n0, nI (qc_n c), nI (qc_d c), nI (qc_p c), f_stale, f_lastVerdict, nI kp, pn, a_ruleLhs, a_ruleLen, a_ruleRhs, a_cells, a_tokens, a_nodeRule, a_nodeFirst, a_nodeLast, a_nodeBorn, a_nodeState, a_nodeLook, a_nodeSize, a_numberOf, a_nodeBroken, a_nodeReused, a_kids, a_freeSlots, a_order, a_newOrder, a_headAt, a_entryNode, a_entryFirst, a_entryState))
    (h1 : qm_rok tb W c r → ∀ (fc' : Nat) (ow' src' : Nat → Nat) (v1 v2 v3 v4 v5 v6 v7 v8 v9 v10 v11 v12 v13 v14 v15 : Nat → Int32), zx_Q tb c0 (qm_rd tb c r (qm_la W c)) (qc_n c + 1) n0 o ow' src' rs FF LL bk bn pn v1 v2 v3 v4 v5 v6 v7 v8 v9 v10 v11 v12 → zx_D W c0 (qm_rd tb c r (qm_la W c)) n0 ow' fs src' rs FF LL bk fc' kp v13 v14 v15 → post 0 (nI W.2, f_tokenLimit, nI fc', nI n0, nI (qc_n c + 1), nI (qm_rb tb c r + 1), nI (qc_p c), f_stale, f_lastVerdict, nI kp, pn, a_ruleLhs, a_ruleLen, a_ruleRhs, a_cells, a_tokens, v1, v2, v3, v4, v5, v6, v7, v10, v8, v11, v9, a_freeSlots, a_order, v12, a_headAt, v13, v14, v15)) :
    wpX_reduce post (nI W.2, f_tokenLimit, nI fc, nI n0, nI (qc_n c), nI (qc_d c), nI (qc_p c), f_stale, f_lastVerdict, nI kp, pn, a_ruleLhs, a_ruleLen, a_ruleRhs, a_cells, a_tokens, a_nodeRule, a_nodeFirst, a_nodeLast, a_nodeBorn, a_nodeState, a_nodeLook, a_nodeSize, a_numberOf, a_nodeBroken, a_nodeReused, a_kids, a_freeSlots, a_order, a_newOrder, a_headAt, a_entryNode, a_entryFirst, a_entryState) (nI r) (nI (qm_la W c)) := by
  have hv := ht.1
  have hwv := zr_wv hw
  obtain ⟨_, c2, c3, c4, _⟩ := qj_cnt hv hwv J
  have hT := ht.2.1 r hr
  refine And.intro (pk_in r 12 hr) (nm_r (zz_at r rfl (by omega) hT.2.2.1) ?_)
  refine pk_eq (qt_ln tb r) 0 (fun hz => h0 (fun hk => hk.1 hz)) (fun hz => ?_)
  refine pk_le (qt_ln tb r) (qc_d c) (fun hle => ?_) (fun hle => h0 (fun hk => by have := hk.2.1; omega))
  refine nm_r (e' := nI (qm_rb tb c r)) (pk_sub hle) ?_
  have hb : qm_rb tb c r < qc_d c := by unfold qm_rb; omega
  refine ⟨qt_ln tb r + 1, wx_hf2 ht hw J hQ.2.1 hD.2.2.2.2.2 hr hle (fun hno => ?_) (fun hs => ?_) (qt_ln tb r) 0 (by omega) _ (by omega) (fun j hj => absurd hj (Nat.not_lt_zero _))⟩
  · exact br_t rfl (h0 (fun hk => hno hk.2.2.1))
  · refine br_f (by decide) ?_
    refine pk_le (qm_rb tb c r) 0 (fun hz0 => ?_) (fun hz0 => ?_)
    · refine wx_59 ?_ ht hw J hn0 hl4 hS hQ hD hr hz hle hs h0 h1
      unfold qm_sb; rw [if_pos (by omega)]; rfl
    · refine And.intro (pk_in (qm_rb tb c r - 1) 16 (by omega) (zz_s1 (by omega))) ?_
      refine wx_59 ?_ ht hw J hn0 hl4 hS hQ hD hr hz hle hs h0 h1
      rw [zz_at (qm_rb tb c r - 1) (zz_s1 (by omega)) (by omega) (hD.2.2.2.2.2 _ (by omega)).2.2]
      unfold qm_sb; rw [if_neg (by omega)]
end
end
section
def zx_cand (W : qm_W) (c0 : qm_C) (n0 : Nat) (FF LL bk : Nat → Nat) (p s i : Nat) : Prop := i < n0 ∧ bk i = 0 ∧ FF i = p ∧ qc_S c0 i = s ∧ qc_K c0 i = qm_sym W (LL i + 1)
/-- nodes that start at one place have one state -/
theorem qj_S {tb : qm_T} {W : qm_W} {c : qm_C} (J : qm_J tb W c) : ∀ x, x < qc_n c → ∀ y, y ≤ x → qc_F c y = qc_F c x → qc_S c y = qc_S c x := by
  intro x
  induction x using Nat.strongRecOn with
  | ind x ih =>
    intro hx y hy hF
    by_cases hyx : y = x
    · rw [hyx]
    · obtain ⟨p1, p2, _, _⟩ := J.2.2.2.2 x y (by omega) hx hF
      obtain ⟨k1, k2⟩ := (J.2.1 x hx).2
      have hl := (J.2.1 x hx).1.2.1
      have hlt : qc_C c x 0 < x := by
        rcases k1 0 (by omega) with g | g
        · rw [g.1] at p1; omega
        · exact g.2.1
      obtain ⟨s1, s2⟩ := k2 p1
      rw [← s1]
      exact ih _ hlt (by omega) y p2 (by rw [hF, s2])
section
variable {tb : qm_T} {W0 W : qm_W} {c0 c : qm_C} {n0 fc kp : Nat} {o ow fs src rs FF LL bk : Nat → Nat} {bn : Nat → Int32} {pn : Int32} {f_tokenTotal f_tokenLimit f_freeCount f_storedCount f_newCount f_depth f_pos f_stale f_lastVerdict f_keptCount f_parseNumber : Int32} {a_ruleLhs a_ruleLen a_ruleRhs a_cells a_tokens a_nodeRule a_nodeFirst a_nodeLast a_nodeBorn a_nodeState a_nodeLook a_nodeSize a_numberOf a_nodeBroken a_nodeReused a_kids a_freeSlots a_order a_newOrder a_headAt a_entryNode a_entryFirst a_entryState : Nat → Int32}
theorem wx_frN {post : Int32 → Prop} {s t n : Nat} (hn : 0 < n) (h : post (-1)) : wX_findReusable_25 post (nI s) f_tokenTotal f_tokenLimit f_freeCount f_storedCount f_newCount f_depth f_pos f_stale f_lastVerdict f_keptCount f_parseNumber a_ruleLhs a_ruleLen a_ruleRhs a_cells a_tokens a_nodeRule a_nodeFirst a_nodeLast a_nodeBorn a_nodeState a_nodeLook a_nodeSize a_numberOf a_nodeBroken a_nodeReused a_kids a_freeSlots a_order a_newOrder a_headAt a_entryNode a_entryFirst a_entryState n (-1) (nI t) := by
  obtain ⟨n, rfl⟩ : ∃ m, n = m + 1 := ⟨n - 1, by omega⟩
  exact br_c (fun _ => h) (fun _ => br_t (by decide) h)
theorem wx_fr25 {post : Int32 → Prop} {s p : Nat} (ht : zr_t a_ruleLhs a_ruleLen a_ruleRhs a_cells tb) (hw : zr_w a_tokens W) (J0 : qm_J tb W0 c0) (hn : n0 = qc_n c0) (hn0 : n0 ≤ 124) (hO : zr_o tb c0 n0 o FF LL bk bn a_nodeRule a_nodeFirst a_nodeLast a_nodeBorn a_nodeState a_nodeLook a_nodeSize a_nodeBroken a_kids) (hp : zr_p W0 W c0 n0 FF LL bk) (hw0 : qm_wv W0) (hs : s < 16)
    (hno : (∀ i, ¬ zx_cand W c0 n0 FF LL bk p s i) → post (-1))
    (hyes : ∀ z, zx_cand W c0 n0 FF LL bk p s z → (∀ i, zx_cand W c0 n0 FF LL bk p s i → qc_B c0 z ≤ i ∧ i ≤ z) → post (nI (o z))) :
    ∀ i, i < n0 → bk i = 0 → FF i = p → (∀ j, zx_cand W c0 n0 FF LL bk p s j → j ≤ i) → ∀ t, t + i < 124 → ∀ n, i + 1 < n → wX_findReusable_25 post (nI s) (nI W.2) f_tokenLimit f_freeCount f_storedCount f_newCount f_depth f_pos f_stale f_lastVerdict f_keptCount f_parseNumber a_ruleLhs a_ruleLen a_ruleRhs a_cells a_tokens a_nodeRule a_nodeFirst a_nodeLast a_nodeBorn a_nodeState a_nodeLook a_nodeSize a_numberOf a_nodeBroken a_nodeReused a_kids a_freeSlots a_order a_newOrder a_headAt a_entryNode a_entryFirst a_entryState n (nI (o i)) (nI t) := by
  have h16 := hw.1
  intro i
  induction i using Nat.strongRecOn with
  | ind i ih =>
    intro hi hb hF hc t ht' n hnn
    obtain ⟨n, rfl⟩ : ∃ m, n = m + 1 := ⟨n - 1, by omega⟩
    obtain ⟨s1, s2, s3, s4, s5, s6, s7, s8, s9⟩ := hO i hi
    obtain ⟨n1, n2, n3, n4, n5, n6, n7, n8⟩ := (J0.2.1 i (by omega)).1
    obtain ⟨k1, k2⟩ := (J0.2.1 i (by omega)).2
    obtain ⟨p1, p2, p3, p4, p5⟩ := hp.1 i hi hb
    have s8' := s8 hb
    have hFe : ∀ j, zx_cand W c0 n0 FF LL bk p s j → qc_F c0 j = qc_F c0 i := by
      intro j hj
      exact hp.2 j i hj.1 hi hj.2.1 hb (by rw [hj.2.2.1, hF])
    have hK7 : qc_K c0 i ≤ 7 := by rw [n6]; exact (qm_sym_le hw0 _).1
    have hy7 := (qm_sym_le (zr_wv hw) (LL i + 1)).1
    have vs : vp_in (nI (o i)) 248 := pk_in (o i) 248 s1
    refine pk_le 124 t (fun h => by omega) (fun _ => ?_)
    refine pk_lt (o i) 0 (fun h => by omega) (fun _ => And.intro vs ?_)
    refine pk_eq (qc_S c0 i) s (fun hS => ?_) (fun hS => ?_) (zz_at (o i) rfl (by omega) s4) rfl
    · refine And.intro vs ?_
      rw [zz_at (o i) rfl (by omega) s8'.2, nI_1 (LL i)]
      refine wx_sym hw (by omega) ?_
      refine And.intro vs ?_
      refine pk_eq (qm_sym W (LL i + 1)) (qc_K c0 i) (fun hK => ?_) (fun hK => ?_) rfl (zz_at (o i) rfl (by omega) s5)
      · refine hyes i ⟨hi, hb, hF, hS, hK.symm⟩ ?_
        intro j hj
        have hji := hc j hj
        by_cases he : j = i
        · rw [he]; exact ⟨n5, Nat.le_refl _⟩
        · have := J0.2.2.2.2 i j (by omega) (by omega) (hFe j hj)
          exact ⟨this.2.2.1, hji⟩
      · rw [zz_m40]
        have hk0 := s9 0 (by omega)
        rw [Nat.add_zero] at hk0
        refine And.intro (pk_in (o i * 4) 992 (by omega)) (nm_r (zz_at (o i * 4) rfl (by omega) hk0) (nm_r (nI_1 t) ?_))
        have hcl : ∀ j, zx_cand W c0 n0 FF LL bk p s j → j < i := by
          intro j hj
          have hji := hc j hj
          by_cases he : j = i
          · rw [he] at hj; exact absurd hj.2.2.2.2.symm hK
          · omega
        by_cases hC : qc_C c0 i 0 < 256
        · rw [if_pos hC]
          have hlt : qc_B c0 i ≤ qc_C c0 i 0 ∧ qc_C c0 i 0 < i := by
            rcases k1 0 (by omega) with g | g
            · rw [g.1] at hC; omega
            · exact ⟨g.1, g.2.1⟩
          obtain ⟨t1, t2⟩ := k2 hC
          obtain ⟨u1, u2⟩ := p5 (qc_C c0 i 0) hlt.1 (by omega)
          refine ih (qc_C c0 i 0) hlt.2 (by omega) u1 (by omega) ?_ (t + 1) (by omega) n (by omega)
          intro j hj
          exact (J0.2.2.2.2 i j (hcl j hj) (by omega) (hFe j hj)).2.1
        · rw [if_neg hC]
          refine wx_frN (by omega) (hno ?_)
          intro j hj
          exact hC (J0.2.2.2.2 i j (hcl j hj) (by omega) (hFe j hj)).1
    · refine hno ?_
      intro j hj
      have := qj_S J0 i (by omega) j (hc j hj) (hFe j hj)
      exact hS (by rw [← this]; exact hj.2.2.2.1)
theorem wx_fr {post : Int32 → Prop} {s p : Nat} (ht : zr_t a_ruleLhs a_ruleLen a_ruleRhs a_cells tb) (hw : zr_w a_tokens W) (J0 : qm_J tb W0 c0) (hn : n0 = qc_n c0) (hn0 : n0 ≤ 124) (hO : zr_o tb c0 n0 o FF LL bk bn a_nodeRule a_nodeFirst a_nodeLast a_nodeBorn a_nodeState a_nodeLook a_nodeSize a_nodeBroken a_kids) (hp : zr_p W0 W c0 n0 FF LL bk) (hw0 : qm_wv W0) (hs : s < 16) (hh : zx_h n0 o FF bk a_headAt) (hpp : p < 16)
    (hno : (∀ i, ¬ zx_cand W c0 n0 FF LL bk p s i) → post (-1))
    (hyes : ∀ z, zx_cand W c0 n0 FF LL bk p s z → (∀ i, zx_cand W c0 n0 FF LL bk p s i → qc_B c0 z ≤ i ∧ i ≤ z) → post (nI (o z))) :
    wpX_findReusable post (nI W.2, f_tokenLimit, f_freeCount, f_storedCount, f_newCount, f_depth, nI p, f_stale, f_lastVerdict, f_keptCount, f_parseNumber, a_ruleLhs, a_ruleLen, a_ruleRhs, a_cells, a_tokens, a_nodeRule, a_nodeFirst, a_nodeLast, a_nodeBorn, a_nodeState, a_nodeLook, a_nodeSize, a_numberOf, a_nodeBroken, a_nodeReused, a_kids, a_freeSlots, a_order, a_newOrder, a_headAt, a_entryNode, a_entryFirst, a_entryState) (nI s) := by
  refine pk_le 16 p (fun h => by omega) (fun _ => And.intro (pk_in p 16 hpp) ?_)
  rcases hh p hpp with ⟨h1, h2⟩ | ⟨i, h1, h2, h3, h4, h5⟩
  · refine nm_r (zz_at p rfl (by omega) h1) ⟨1, wx_frN (t := 0) (by omega) (hno ?_)⟩
    intro i hi
    exact h2 i hi.1 hi.2.1 hi.2.2.1
  · refine nm_r (zz_at p rfl (by omega) h2) ⟨i + 2, wx_fr25 ht hw J0 hn hn0 hO hp hw0 hs hno hyes i h1 h3 h4 (fun j hj => h5 j hj.1 hj.2.1 hj.2.2.1) 0 (by omega) _ (by omega)⟩
theorem zc_up {f : Nat → Nat} {i : Nat} : ∀ n, i < n → f i = 0 → zc_n (qm_up f i 1) n = zc_n f n + 1 := by
  intro n
  induction n with
  | zero => intro h; exact absurd h (Nat.not_lt_zero _)
  | succ n ih =>
    intro h hf
    show zc_n (qm_up f i 1) n + (if qm_up f i 1 n = 0 then 0 else 1) = zc_n f n + (if f n = 0 then 0 else 1) + 1
    by_cases hn : n = i
    · rw [hn, qm_us, if_neg (by decide), if_pos hf, zc_congr (g := f) i (fun x hx => qm_un (by omega))]
    · rw [ih (by omega) hf, qm_un hn]; omega
theorem wx_21 {post : SX → Prop} {B z nb : Nat} (hn0 : n0 ≤ 124) (hi : zx_inj o n0) (ho : ∀ i, i < n0 → a_order i = nI (o i)) (hO : zr_o tb c0 n0 o FF LL bk bn a_nodeRule a_nodeFirst a_nodeLast a_nodeBorn a_nodeState a_nodeLook a_nodeSize a_nodeBroken a_kids) (hz : z < n0) (hB : B = qc_B c0 z) (hnb : nb + (z + 1 - B) ≤ 124)
    (hst : ∀ i, B ≤ i → i ≤ z → ow (nb + (i - B)) = o i ∧ src (nb + (i - B)) = i + 1 ∧ zm_m c0 c FF LL bk i (nb + (i - B)) ∧ nb + (i - B) + 1 - qc_B c (nb + (i - B)) = i + 1 - qc_B c0 i ∧ ∀ k, k < qt_ln tb (qc_R c0 i) → (qc_C c0 i k < 256 ∧ qc_C c (nb + (i - B)) k < 256 ∧ ow (qc_C c (nb + (i - B)) k) = o (qc_C c0 i k)) ∨ (256 ≤ qc_C c0 i k ∧ 256 ≤ qc_C c (nb + (i - B)) k))
    (h : ∀ (rs' : Nat → Nat) (v10 v11 v12 : Nat → Int32), zx_Q tb c0 c (nb + (z + 1 - B)) n0 o ow src rs' FF LL bk bn pn a_nodeRule a_nodeFirst a_nodeLast a_nodeBorn a_nodeState a_nodeLook a_nodeSize a_nodeBroken a_kids v10 v11 v12 → zc_n rs' n0 = kp + (z + 1 - B) → (∀ j, rs j = 1 → rs' j = 1) → (∀ j, B ≤ j → j ≤ z → rs' j = 1) → post (f_tokenTotal, f_tokenLimit, f_freeCount, f_storedCount, nI (nb + (z + 1 - B)), f_depth, f_pos, f_stale, f_lastVerdict, nI (kp + (z + 1 - B)), f_parseNumber, a_ruleLhs, a_ruleLen, a_ruleRhs, a_cells, a_tokens, a_nodeRule, a_nodeFirst, a_nodeLast, a_nodeBorn, a_nodeState, a_nodeLook, a_nodeSize, v10, a_nodeBroken, v11, a_kids, a_freeSlots, a_order, v12, a_headAt, a_entryNode, a_entryFirst, a_entryState)) :
    ∀ d i, i + d = z + 1 → B ≤ i → ∀ n, d < n → ∀ (rs' : Nat → Nat) (v10 v11 v12 : Nat → Int32), zx_Q tb c0 c (nb + (i - B)) n0 o ow src rs' FF LL bk bn pn a_nodeRule a_nodeFirst a_nodeLast a_nodeBorn a_nodeState a_nodeLook a_nodeSize a_nodeBroken a_kids v10 v11 v12 → zc_n rs' n0 = kp + (i - B) → (∀ j, rs j = 1 → rs' j = 1) → (∀ j, B ≤ j → j < i → rs' j = 1) → (∀ j, i ≤ j → j ≤ z → rs' j = 0) → wX_takeSubtree_21 post (nI (o z)) (nI z) n (nI i) f_tokenTotal f_tokenLimit f_freeCount f_storedCount (nI (nb + (i - B))) f_depth f_pos f_stale f_lastVerdict (nI kp) f_parseNumber a_ruleLhs a_ruleLen a_ruleRhs a_cells a_tokens a_nodeRule a_nodeFirst a_nodeLast a_nodeBorn a_nodeState a_nodeLook a_nodeSize v10 a_nodeBroken v11 a_kids a_freeSlots a_order v12 a_headAt a_entryNode a_entryFirst a_entryState := by
  intro d
  induction d with
  | zero =>
    intro i hi' hBi n hn rs' v10 v11 v12 hQ g1 g2 g3 g4
    obtain ⟨n, rfl⟩ : ∃ m, n = m + 1 := ⟨n - 1, by omega⟩
    have hiz : i = z + 1 := by omega
    have hs := hO z hz
    have hs1 := hs.1
    subst hiz
    refine pk_lt z (z + 1) (fun _ => ?_) (fun h => by omega)
    refine And.intro (pk_in (o z) 248 hs1) (nm_r (e' := nI (kp + (z + 1 - B))) ?_ ?_)
    · rw [zz_at (o z) rfl (by omega) hs.2.2.2.2.2.1, nI_add, hB]
    · exact h rs' v10 v11 v12 hQ g1 g2 (fun j j1 j2 => g3 j j1 (by omega))
  | succ d ih =>
    intro i hi' hBi n hn rs' v10 v11 v12 hQ g1 g2 g3 g4
    obtain ⟨n, rfl⟩ : ∃ m, n = m + 1 := ⟨n - 1, by omega⟩
    have hin : i < n0 := by omega
    have hs1 := (hO i hin).1
    refine pk_lt z i (fun h => by omega) (fun _ => ?_)
    refine And.intro (pk_in i 124 (by omega)) (nm_r (zz_at i rfl (by omega) (ho i hin)) (And.intro (pk_in (o i) 248 hs1) (nm_r (zz_up (o i) rfl (by omega) zz_b1) ?_)))
    refine wx_app (n := nb + (i - B)) (by omega) hs1 ?_
    refine nm_r (nI_1 i) ?_
    obtain ⟨t1, t2, t3, t4, t5⟩ := hst i hBi (by omega)
    have hr0 : rs' i = 0 := g4 i (Nat.le_refl _) (by omega)
    have hQ' := zx_app hQ hi hin hr0 t1 t2 t3 t4 t5
    have e1 : nb + (i - B) + 1 = nb + (i + 1 - B) := by omega
    rw [e1] at hQ' ⊢
    refine ih (i + 1) (by omega) (by omega) n (by omega) (qm_up rs' i 1) _ _ _ hQ' ?_ ?_ ?_ ?_
    · rw [zc_up n0 hin hr0, g1]; omega
    · intro j hj
      by_cases hji : j = i
      · rw [hji, qm_us]
      · rw [qm_un hji]; exact g2 j hj
    · intro j j1 j2
      by_cases hji : j = i
      · rw [hji, qm_us]
      · rw [qm_un hji]; exact g3 j j1 (by omega)
    · intro j j1 j2
      rw [qm_un (by omega)]; exact g4 j (by omega) j2
end
end
section
theorem zc_add {f : Nat → Nat} {n : Nat} : ∀ m, (∀ x, n ≤ x → x < n + m → f x ≠ 0) → zc_n f (n + m) = zc_n f n + m := by
  intro m
  induction m with
  | zero => intro _; rfl
  | succ m ih =>
    intro h
    show zc_n f (n + m) + (if f (n + m) = 0 then 0 else 1) = zc_n f n + (m + 1)
    rw [ih (fun x h1 h2 => h x h1 (by omega)), if_neg (h (n + m) (by omega) (by omega))]
    omega
theorem qf_sbLow {c g : qm_C} {b e : Nat} (h : qf_low c g b) (he : e ≤ b) : qm_sb g e = qm_sb c e := by
  unfold qm_sb
  by_cases h0 : e = 0
  · rw [if_pos h0, if_pos h0]
  · rw [if_neg h0, if_neg h0]; exact (h (e - 1) (by omega)).2.1
section
variable {tb : qm_T} {W0 W : qm_W} {n0 fc kp K0 k : Nat} {o ow fs src rs FF LL bk : Nat → Nat} {bn : Nat → Int32} {pn : Int32} {f_tokenTotal f_tokenLimit f_freeCount f_storedCount f_newCount f_depth f_pos f_stale f_lastVerdict f_keptCount f_parseNumber : Int32} {a_ruleLhs a_ruleLen a_ruleRhs a_cells a_tokens a_nodeRule a_nodeFirst a_nodeLast a_nodeBorn a_nodeState a_nodeLook a_nodeSize a_numberOf a_nodeBroken a_nodeReused a_kids a_freeSlots a_order a_newOrder a_headAt a_entryNode a_entryFirst a_entryState : Nat → Int32}
theorem wx_bare {post : SX → Prop} (ht : zr_t a_ruleLhs a_ruleLen a_ruleRhs a_cells tb) (hw : zr_w a_tokens W) (hG : qm_goes tb W k) (hQ : zx_Q tb (qm_run tb W0 K0) (qm_run tb W k) (qc_n (qm_run tb W k)) n0 o ow src rs FF LL bk bn pn a_nodeRule a_nodeFirst a_nodeLast a_nodeBorn a_nodeState a_nodeLook a_nodeSize a_nodeBroken a_kids a_numberOf a_nodeReused a_newOrder) (hD : zx_D W (qm_run tb W0 K0) (qm_run tb W k) n0 ow fs src rs FF LL bk fc kp a_entryNode a_entryFirst a_entryState) (ha0 : qm_act tb W (qm_run tb W k) ≠ 0) (ha : qm_act tb W (qm_run tb W k) ≤ 15) (hno : ∀ i, ¬ zx_cand W (qm_run tb W0 K0) n0 FF LL bk (qc_p (qm_run tb W k)) (qm_top (qm_run tb W k)) i)
    (h : ∀ (k' fc' kp' : Nat) (ow' src' rs' : Nat → Nat) (v1 v2 v3 v4 v5 v6 v7 v8 v9 v10 v11 v12 v13 v14 v15 : Nat → Int32), k < k' → qm_goes tb W k' → zx_Q tb (qm_run tb W0 K0) (qm_run tb W k') (qc_n (qm_run tb W k')) n0 o ow' src' rs' FF LL bk bn pn v1 v2 v3 v4 v5 v6 v7 v8 v9 v10 v11 v12 → zx_D W (qm_run tb W0 K0) (qm_run tb W k') n0 ow' fs src' rs' FF LL bk fc' kp' v13 v14 v15 → post (nI W.2, f_tokenLimit, nI fc', nI n0, nI (qc_n (qm_run tb W k')), nI (qc_d (qm_run tb W k')), nI (qc_p (qm_run tb W k')), f_stale, f_lastVerdict, nI kp', pn, a_ruleLhs, a_ruleLen, a_ruleRhs, a_cells, a_tokens, v1, v2, v3, v4, v5, v6, v7, v10, v8, v11, v9, a_freeSlots, a_order, v12, a_headAt, v13, v14, v15)) :
    wpX_push (fun u => match u with | (f_tokenTotal, f_tokenLimit, f_freeCount, f_storedCount, f_newCount, f_depth, f_pos, f_stale, f_lastVerdict, f_keptCount, f_parseNumber, a_ruleLhs, a_ruleLen, a_ruleRhs, a_cells, a_tokens, a_nodeRule, a_nodeFirst, a_nodeLast, a_nodeBorn, a_nodeState, a_nodeLook, a_nodeSize, a_numberOf, a_nodeBroken, a_nodeReused, a_kids, a_freeSlots, a_order, a_newOrder, a_headAt, a_entryNode, a_entryFirst, a_entryState) => (∀ f_pos_148 : Int32, f_pos_148 = f_pos + 1 → (post (f_tokenTotal, f_tokenLimit, f_freeCount, f_storedCount, f_newCount, f_depth, f_pos_148, f_stale, f_lastVerdict, f_keptCount, f_parseNumber, a_ruleLhs, a_ruleLen, a_ruleRhs, a_cells, a_tokens, a_nodeRule, a_nodeFirst, a_nodeLast, a_nodeBorn, a_nodeState, a_nodeLook, a_nodeSize, a_numberOf, a_nodeBroken, a_nodeReused, a_kids, a_freeSlots, a_order, a_newOrder, a_headAt, a_entryNode, a_entryFirst, a_entryState)))) (nI W.2, f_tokenLimit, nI fc, nI n0, nI (qc_n (qm_run tb W k)), nI (qc_d (qm_run tb W k)), nI (qc_p (qm_run tb W k)), f_stale, f_lastVerdict, nI kp, pn, a_ruleLhs, a_ruleLen, a_ruleRhs, a_cells, a_tokens, a_nodeRule, a_nodeFirst, a_nodeLast, a_nodeBorn, a_nodeState, a_nodeLook, a_nodeSize, a_numberOf, a_nodeBroken, a_nodeReused, a_kids, a_freeSlots, a_order, a_newOrder, a_headAt, a_entryNode, a_entryFirst, a_entryState) (-1) (nI (qc_p (qm_run tb W k))) (nI (qm_act tb W (qm_run tb W k))) := by
  have hv := ht.1
  have hwv := zr_wv hw
  have J := qm_Jk hv hwv k hG
  obtain ⟨_, c2, c3, c4, _⟩ := qj_cnt hv hwv J
  have hp : qc_p (qm_run tb W k) < W.2 := by
    rcases qm_actv hv hwv J with g | g | g
    · exact g.2 ha0
    · omega
    · omega
  have h16 := hw.1
  have hn : qm_run tb W (k + 1) = qm_sh (qm_run tb W k) (qm_act tb W (qm_run tb W k)) := by
    show qm_nx tb W (qm_run tb W k) = _
    unfold qm_nx; rw [if_pos ha]
  have hgo : qm_goes tb W (k + 1) := qm_goes1 hG ⟨ha0, by omega, fun z => by omega⟩
  obtain ⟨d1, d2, d3, d4, d5, d6⟩ := hD
  refine wx_push (d := qc_d (qm_run tb W k)) (by omega) ?_
  refine nm_r (nI_1 _) ?_
  have H := h (k + 1) fc kp ow src rs a_nodeRule a_nodeFirst a_nodeLast a_nodeBorn a_nodeState a_nodeLook a_nodeSize a_nodeBroken a_kids a_numberOf a_nodeReused a_newOrder (upd a_entryNode (qc_d (qm_run tb W k)) (-1)) (upd a_entryFirst (qc_d (qm_run tb W k)) (nI (qc_p (qm_run tb W k)))) (upd a_entryState (qc_d (qm_run tb W k)) (nI (qm_act tb W (qm_run tb W k)))) (by omega) hgo
  rw [hn] at H
  refine H ?_ ⟨d1, d2, d3, d4, ?_, ?_⟩
  · refine zx_see hQ (fun x _ => ⟨rfl, rfl, rfl, rfl, rfl, rfl, rfl⟩) (fun _ _ => rfl) (fun _ _ => rfl) ?_
    intro x hx j hj hc
    rcases (J.2.1 x hx).2.1 j hj with g | g
    · rw [g.1] at hc; omega
    · omega
  · intro e he i hi b1 b2 b3 b4
    have he1 : e < qc_d (qm_run tb W k) + 1 := he
    rw [qs_sb (by omega)] at b3
    by_cases hed : e = qc_d (qm_run tb W k)
    · have e1 : qc_ef (qm_sh (qm_run tb W k) (qm_act tb W (qm_run tb W k))) e = qc_p (qm_run tb W k) := by rw [hed]; exact qm_us _ _ _
      rw [e1] at b2
      rw [hed] at b3
      exact absurd ⟨hi, b1, b2, b3, b4⟩ (hno i)
    · have e1 : qc_ef (qm_sh (qm_run tb W k) (qm_act tb W (qm_run tb W k))) e = qc_ef (qm_run tb W k) e := qm_un hed
      rw [e1] at b2
      exact d5 e (by omega) i hi b1 b2 b3 b4
  · intro e he
    have he1 : e < qc_d (qm_run tb W k) + 1 := he
    by_cases hed : e = qc_d (qm_run tb W k)
    · have e1 : qc_ef (qm_sh (qm_run tb W k) (qm_act tb W (qm_run tb W k))) (qc_d (qm_run tb W k)) = qc_p (qm_run tb W k) := qm_us _ _ _
      rw [hed, qs_er1, qs_es1, e1, if_neg (by omega), pk_us, pk_us, pk_us]
      exact ⟨rfl, rfl, rfl⟩
    · have e1 : qc_ef (qm_sh (qm_run tb W k) (qm_act tb W (qm_run tb W k))) e = qc_ef (qm_run tb W k) e := qm_un hed
      rw [qs_er (by omega), qs_es (by omega), e1, pk_un hed, pk_un hed, pk_un hed]
      exact d6 e (by omega)
/-- where an old subtree goes over -/
def zx_ow (n B : Nat) (o ow : Nat → Nat) : Nat → Nat := fun y => if y < n then ow y else o (y - n + B)
def zx_sr (n B : Nat) (src : Nat → Nat) : Nat → Nat := fun y => if y < n then src y else y - n + B + 1
theorem zx_ow_lo {n B y : Nat} {o ow : Nat → Nat} (h : y < n) : zx_ow n B o ow y = ow y := if_pos h
theorem zx_ow_hi {n B y : Nat} {o ow : Nat → Nat} (h : n ≤ y) : zx_ow n B o ow y = o (y - n + B) := if_neg (by omega)
theorem zx_sr_lo {n B y : Nat} {src : Nat → Nat} (h : y < n) : zx_sr n B src y = src y := if_pos h
theorem zx_sr_hi {n B y : Nat} {src : Nat → Nat} (h : n ≤ y) : zx_sr n B src y = y - n + B + 1 := if_neg (by omega)
end
end
section
section
variable {tb : qm_T} {W0 W : qm_W} {n0 fc kp K0 k : Nat} {o ow fs src rs FF LL bk : Nat → Nat} {bn : Nat → Int32} {pn : Int32} {f_tokenTotal f_tokenLimit f_freeCount f_storedCount f_newCount f_depth f_pos f_stale f_lastVerdict f_keptCount f_parseNumber : Int32} {a_ruleLhs a_ruleLen a_ruleRhs a_cells a_tokens a_nodeRule a_nodeFirst a_nodeLast a_nodeBorn a_nodeState a_nodeLook a_nodeSize a_numberOf a_nodeBroken a_nodeReused a_kids a_freeSlots a_order a_newOrder a_headAt a_entryNode a_entryFirst a_entryState : Nat → Int32}
/-- what the reuse of old node z brings -/
def zx_U (tb : qm_T) (W0 W : qm_W) (K0 k k' z : Nat) (o ow FF LL bk : Nat → Nat) : Prop := k < k' ∧ qm_goes tb W k' ∧ qc_d (qm_run tb W k') = qc_d (qm_run tb W k) + 1 ∧ qc_p (qm_run tb W k') = LL z + 1 ∧ qc_n (qm_run tb W k') = qc_n (qm_run tb W k) + (z + 1 - qc_B (qm_run tb W0 K0) z) ∧ qc_er (qm_run tb W k') (qc_d (qm_run tb W k)) + 1 = qc_n (qm_run tb W k') ∧ qc_ef (qm_run tb W k') (qc_d (qm_run tb W k)) = qc_p (qm_run tb W k) ∧ qf_low (qm_run tb W k) (qm_run tb W k') (qc_d (qm_run tb W k)) ∧ (∀ i, qc_B (qm_run tb W0 K0) z ≤ i → i ≤ z → zm_m (qm_run tb W0 K0) (qm_run tb W k') FF LL bk i (qc_n (qm_run tb W k) + (i - qc_B (qm_run tb W0 K0) z)) ∧ qc_n (qm_run tb W k) + (i - qc_B (qm_run tb W0 K0) z) + 1 - qc_B (qm_run tb W k') (qc_n (qm_run tb W k) + (i - qc_B (qm_run tb W0 K0) z)) = i + 1 - qc_B (qm_run tb W0 K0) i ∧ ∀ j, j < qt_ln tb (qc_R (qm_run tb W0 K0) i) → (qc_C (qm_run tb W0 K0) i j < 256 ∧ qc_C (qm_run tb W k') (qc_n (qm_run tb W k) + (i - qc_B (qm_run tb W0 K0) z)) j < 256 ∧ zx_ow (qc_n (qm_run tb W k)) (qc_B (qm_run tb W0 K0) z) o ow (qc_C (qm_run tb W k') (qc_n (qm_run tb W k) + (i - qc_B (qm_run tb W0 K0) z)) j) = o (qc_C (qm_run tb W0 K0) i j)) ∨ (256 ≤ qc_C (qm_run tb W0 K0) i j ∧ 256 ≤ qc_C (qm_run tb W k') (qc_n (qm_run tb W k) + (i - qc_B (qm_run tb W0 K0) z)) j))
theorem zx_reuse {z : Nat} (hv : qm_tv tb) (hw0 : qm_wv W0) (hw : qm_wv W) (hG0 : qm_goes tb W0 K0) (hn : n0 = qc_n (qm_run tb W0 K0)) (hG : qm_goes tb W k) (hp : zr_p W0 W (qm_run tb W0 K0) n0 FF LL bk) (hz : zx_cand W (qm_run tb W0 K0) n0 FF LL bk (qc_p (qm_run tb W k)) (qm_top (qm_run tb W k)) z) : ∃ k', zx_U tb W0 W K0 k k' z o ow FF LL bk := by
  obtain ⟨z1, z2, z3, z4, z5⟩ := hz
  obtain ⟨p1, p2, p3, p4, p5⟩ := hp.1 z z1 z2
  have J0 := qm_Jk hv hw0 K0 hG0
  have hNz := (J0.2.1 z (by omega)).1
  obtain ⟨k', q1, q2, q3, q4, q5, q6, q7, q8, q9, q10⟩ := qf_main hv hw0 hw (z := z) (k := k) hG0 (by omega) hG z4.symm (by
    intro q a1 a2 q' a3
    refine ⟨by omega, p4 q q' a1 a2 (by omega)⟩) (by
    intro q' a1
    rw [show q' = LL z + 1 by omega]
    exact z5.symm)
  have hBz : qc_B (qm_run tb W0 K0) z ≤ z := hNz.2.2.2.2.1
  refine ⟨k', q1, q2, q3, by omega, by omega, q6, q7, q9, ?_⟩
  intro i i1 i2
  obtain ⟨r1, r2, r3, r4, r5, r6, r7⟩ := q10 i i1 i2 (qc_n (qm_run tb W k) + (i - qc_B (qm_run tb W0 K0) z)) (by omega)
  obtain ⟨b1, b2⟩ := p5 i i1 i2
  obtain ⟨t1, t2, t3, _, _⟩ := hp.1 i (by omega) b1
  have hNi := (J0.2.1 i (by omega)).1
  have hBi := hNi.2.2.2.2.1
  obtain ⟨r4a, r4b⟩ := r4
  obtain ⟨r5a, r5b⟩ := r5
  obtain ⟨r6a, r6b⟩ := r6
  refine ⟨⟨b1, r1.symm, by omega, by omega, r2.symm, r3.symm⟩, by omega, ?_⟩
  intro j hj
  rcases r7 j hj with ⟨f1, f2, f3, f4⟩ | ⟨f1, f2, f3, f4⟩
  · exact Or.inr ⟨f1, f2⟩
  · refine Or.inl ⟨f1, f2, ?_⟩
    rw [zx_ow_hi (by omega)]
    congr 1
    omega
theorem zx_fresh {z : Nat} (hv : qm_tv tb) (hw0 : qm_wv W0) (hw : qm_wv W) (hG0 : qm_goes tb W0 K0) (hn : n0 = qc_n (qm_run tb W0 K0)) (hG : qm_goes tb W k) (hp : zr_p W0 W (qm_run tb W0 K0) n0 FF LL bk) (hQ : zx_Q tb (qm_run tb W0 K0) (qm_run tb W k) (qc_n (qm_run tb W k)) n0 o ow src rs FF LL bk bn pn a_nodeRule a_nodeFirst a_nodeLast a_nodeBorn a_nodeState a_nodeLook a_nodeSize a_nodeBroken a_kids a_numberOf a_nodeReused a_newOrder) (hz : z < n0) (hb : bk z = 0) (hF : FF z = qc_p (qm_run tb W k)) : ∀ j, qc_B (qm_run tb W0 K0) z ≤ j → j ≤ z → rs j = 0 := by
  intro j j1 j2
  have J0 := qm_Jk hv hw0 K0 hG0
  have J := qm_Jk hv hw k hG
  obtain ⟨p1, p2, p3, p4, p5⟩ := hp.1 z hz hb
  obtain ⟨a1, a2, a3, a4⟩ := hQ.2.2.2.2 j (by omega)
  by_cases h : rs j = 1
  · obtain ⟨x, x1, x2⟩ := a4 h
    obtain ⟨_, _, _, b4⟩ := hQ.2.2.1 x x1
    obtain ⟨_, _, _, m0, m1, m2, m3, _⟩ := b4 (by omega)
    rw [show src x - 1 = j by omega] at m2
    have hB := (J0.2.2.2.1 z (by omega) j j1 j2).1
    have hN := (J.2.1 x x1).1
    have h1 := hN.2.2.1
    have h2 := hN.2.2.2.1
    have h3 := (p5 j j1 j2).2
    omega
  · omega
theorem wx_shift {post : SX → Prop} (ht : zr_t a_ruleLhs a_ruleLen a_ruleRhs a_cells tb) (hw : zr_w a_tokens W) (hw0 : qm_wv W0) (hG0 : qm_goes tb W0 K0) (hn : n0 = qc_n (qm_run tb W0 K0)) (hn0 : n0 ≤ 124) (hS : zx_S n0 o fs a_freeSlots a_order) (hh : zx_h n0 o FF bk a_headAt) (hp : zr_p W0 W (qm_run tb W0 K0) n0 FF LL bk) (hG : qm_goes tb W k) (hQ : zx_Q tb (qm_run tb W0 K0) (qm_run tb W k) (qc_n (qm_run tb W k)) n0 o ow src rs FF LL bk bn pn a_nodeRule a_nodeFirst a_nodeLast a_nodeBorn a_nodeState a_nodeLook a_nodeSize a_nodeBroken a_kids a_numberOf a_nodeReused a_newOrder) (hD : zx_D W (qm_run tb W0 K0) (qm_run tb W k) n0 ow fs src rs FF LL bk fc kp a_entryNode a_entryFirst a_entryState) (ha0 : qm_act tb W (qm_run tb W k) ≠ 0) (ha : qm_act tb W (qm_run tb W k) ≤ 15)
    (h : ∀ (k' fc' kp' : Nat) (ow' src' rs' : Nat → Nat) (v1 v2 v3 v4 v5 v6 v7 v8 v9 v10 v11 v12 v13 v14 v15 : Nat → Int32), k < k' → qm_goes tb W k' → zx_Q tb (qm_run tb W0 K0) (qm_run tb W k') (qc_n (qm_run tb W k')) n0 o ow' src' rs' FF LL bk bn pn v1 v2 v3 v4 v5 v6 v7 v8 v9 v10 v11 v12 → zx_D W (qm_run tb W0 K0) (qm_run tb W k') n0 ow' fs src' rs' FF LL bk fc' kp' v13 v14 v15 → post (nI W.2, f_tokenLimit, nI fc', nI n0, nI (qc_n (qm_run tb W k')), nI (qc_d (qm_run tb W k')), nI (qc_p (qm_run tb W k')), f_stale, f_lastVerdict, nI kp', pn, a_ruleLhs, a_ruleLen, a_ruleRhs, a_cells, a_tokens, v1, v2, v3, v4, v5, v6, v7, v10, v8, v11, v9, a_freeSlots, a_order, v12, a_headAt, v13, v14, v15)) : wpX_shift post (nI W.2, f_tokenLimit, nI fc, nI n0, nI (qc_n (qm_run tb W k)), nI (qc_d (qm_run tb W k)), nI (qc_p (qm_run tb W k)), f_stale, f_lastVerdict, nI kp, pn, a_ruleLhs, a_ruleLen, a_ruleRhs, a_cells, a_tokens, a_nodeRule, a_nodeFirst, a_nodeLast, a_nodeBorn, a_nodeState, a_nodeLook, a_nodeSize, a_numberOf, a_nodeBroken, a_nodeReused, a_kids, a_freeSlots, a_order, a_newOrder, a_headAt, a_entryNode, a_entryFirst, a_entryState) (nI (qm_top (qm_run tb W k))) (nI (qm_act tb W (qm_run tb W k))) := by
  have hv := ht.1
  have hwv := zr_wv hw
  have J := qm_Jk hv hwv k hG
  have J0 := qm_Jk hv hw0 K0 hG0
  have h16 := hw.1
  have hpl : qc_p (qm_run tb W k) < W.2 := by
    rcases qm_actv hv hwv J with g | g | g
    · exact g.2 ha0
    · omega
    · omega
  have htop : qm_top (qm_run tb W k) < 16 := qj_top J (Nat.le_refl _)
  refine wx_fr ht hw J0 hn hn0 hQ.1 hp hw0 htop hh (by omega) (fun hno => ?_) (fun z hz hmax => ?_)
  · exact br_f (by decide) (wx_bare ht hw hG hQ hD ha0 ha hno h)
  · have hzc := hz
    obtain ⟨z1, z2, z3, z4, z5⟩ := hz
    obtain ⟨k', u1, u2, u3, u4, u5, u6, u7, u8, u9⟩ := zx_reuse (o := o) (ow := ow) hv hw0 hwv hG0 hn hG hp hzc
    have hr0 := zx_fresh hv hw0 hwv hG0 hn hG hp hQ z1 z2 z3
    have hsl := hQ.1 z z1
    have hs1 := hsl.1
    have hBz := (J0.2.1 z (by omega)).1.2.2.2.2.1
    have hR12 := (J0.2.1 z (by omega)).1.1
    have J' := qm_Jk hv hwv k' u2
    obtain ⟨_, c2, c3, c4, _⟩ := qj_cnt hv hwv J'
    have hkeep := (qm_keep (tb := tb) (W := W) k (k' - k)).2.2
    rw [show k + (k' - k) = k' by omega] at hkeep
    obtain ⟨d1, d2, d3, d4, d5, d6⟩ := hD
    have hkp := zc_le src (qc_n (qm_run tb W k))
    have vs : vp_in (nI (o z)) 248 := pk_in (o z) 248 hs1
    have hnum := (hQ.2.2.2.2 z z1).2.2.1 (hr0 z hBz (Nat.le_refl _))
    refine br_t (nI_pos' (by omega)) ?_
    refine And.intro vs (nm_r (zz_at (o z) rfl (by omega) hnum) (And.intro vs (nm_r (e' := nI (qc_B (qm_run tb W0 K0) z)) ?_ ⟨z + 2, ?_⟩)))
    · rw [zz_at (o z) rfl (by omega) hsl.2.2.2.2.2.1]
      have e1 : ∀ a b : Int32, a - b + 1 = a + 1 - b := by intro a b; grind
      rw [e1, nI_1, pk_sub (by omega)]
      congr 1
      omega
    have hQ1 : zx_Q tb (qm_run tb W0 K0) (qm_run tb W k') (qc_n (qm_run tb W k) + (qc_B (qm_run tb W0 K0) z - qc_B (qm_run tb W0 K0) z)) n0 o (zx_ow (qc_n (qm_run tb W k)) (qc_B (qm_run tb W0 K0) z) o ow) (zx_sr (qc_n (qm_run tb W k)) (qc_B (qm_run tb W0 K0) z) src) rs FF LL bk bn pn a_nodeRule a_nodeFirst a_nodeLast a_nodeBorn a_nodeState a_nodeLook a_nodeSize a_nodeBroken a_kids a_numberOf a_nodeReused a_newOrder := by
      rw [Nat.sub_self, Nat.add_zero]
      refine zx_see hQ hkeep (fun x hx => zx_ow_lo hx) (fun x hx => zx_sr_lo hx) ?_
      intro x hx j hj hc
      rcases (J.2.1 x hx).2.1 j hj with g | g
      · rw [g.1] at hc; omega
      · omega
    have e0 : nI (qc_n (qm_run tb W k)) = nI (qc_n (qm_run tb W k) + (qc_B (qm_run tb W0 K0) z - qc_B (qm_run tb W0 K0) z)) := by rw [Nat.sub_self, Nat.add_zero]
    rw [e0]
    refine wx_21 (pn := pn) (rs := rs) (kp := kp) (c := qm_run tb W k') (ow := zx_ow (qc_n (qm_run tb W k)) (qc_B (qm_run tb W0 K0) z) o ow) (src := zx_sr (qc_n (qm_run tb W k)) (qc_B (qm_run tb W0 K0) z) src) hn0 hS.1 hS.2.1 hQ.1 z1 rfl (by omega) ?_ ?_ (z + 1 - qc_B (qm_run tb W0 K0) z) (qc_B (qm_run tb W0 K0) z) (by omega) (Nat.le_refl _) _ (by omega) rs _ _ _ hQ1 (by rw [Nat.sub_self, Nat.add_zero]; exact d3.symm) (fun j hj => hj) (fun j j1 j2 => by omega) hr0
    · intro i i1 i2
      obtain ⟨w1, w2, w3⟩ := u9 i i1 i2
      refine ⟨?_, ?_, w1, w2, w3⟩
      · rw [zx_ow_hi (by omega)]; congr 1; omega
      · rw [zx_sr_hi (by omega)]; omega
    · intro rs' v10 v11 v12 g1 g2 g3 g4
      rw [← u5] at g1
      have hl12 := ht.2.1 _ hR12
      refine And.intro vs ?_
      rw [zz_at (o z) rfl (by omega) hsl.2.1]
      refine And.intro (pk_in (qc_R (qm_run tb W0 K0) z) 12 hR12) (nm_r (zz_at _ rfl (by omega) hl12.1) ?_)
      rw [zz_m12]
      have hce := ht.2.2 (qm_top (qm_run tb W k) * 12 + qt_lh tb (qc_R (qm_run tb W0 K0) z)) (by omega)
      refine And.intro (pk_in (qm_top (qm_run tb W k) * 12 + qt_lh tb (qc_R (qm_run tb W0 K0) z)) 192 (by omega)) ?_
      rw [zz_at _ rfl (by omega) hce.1]
      refine wx_push (d := qc_d (qm_run tb W k)) (by omega) ?_
      refine And.intro vs (nm_r (e' := nI (qc_p (qm_run tb W k'))) ?_ ?_)
      · rw [zz_at (o z) rfl (by omega) (hsl.2.2.2.2.2.2.2.1 z2).2, nI_1, u4]
      have H := h k' fc (kp + (z + 1 - qc_B (qm_run tb W0 K0) z)) (zx_ow (qc_n (qm_run tb W k)) (qc_B (qm_run tb W0 K0) z) o ow) (zx_sr (qc_n (qm_run tb W k)) (qc_B (qm_run tb W0 K0) z) src) rs' a_nodeRule a_nodeFirst a_nodeLast a_nodeBorn a_nodeState a_nodeLook a_nodeSize a_nodeBroken a_kids v10 v11 v12 (upd a_entryNode (qc_d (qm_run tb W k)) (nI (o z))) (upd a_entryFirst (qc_d (qm_run tb W k)) (nI (qc_p (qm_run tb W k)))) (upd a_entryState (qc_d (qm_run tb W k)) (nI (qt_ce tb (qm_top (qm_run tb W k) * 12 + qt_lh tb (qc_R (qm_run tb W0 K0) z))))) u1 u2 g1
      rw [u3, u5] at H
      rw [u5] at g1
      have hzz := u9 z hBz (Nat.le_refl _)
      refine H ⟨?_, ?_, ?_, ?_, ?_, ?_⟩
      · intro j hj x hx
        by_cases hxn : x < qc_n (qm_run tb W k)
        · rw [zx_ow_lo hxn]; exact d1 j hj x hxn
        · rw [zx_ow_hi (by omega)]
          exact (hS.2.2.1 j (by omega)).2.2 _ (by omega)
      · omega
      · exact g2.symm
      · rw [u5, zc_add _ (fun x x1 x2 => by rw [zx_sr_hi x1]; omega), zc_congr (g := src) _ (fun x hx => zx_sr_lo hx)]
        omega
      · intro e he i hi b1 b2 b3 b4
        rw [u3] at he
        by_cases hed : e = qc_d (qm_run tb W k)
        · rw [hed, u7] at b2
          rw [hed, qf_sbLow u8 (Nat.le_refl _)] at b3
          obtain ⟨y1, y2⟩ := hmax i ⟨hi, b1, b2, b3, b4⟩
          exact g4 i y1 y2
        · rw [(u8 e (by omega)).2.2.1] at b2
          rw [qf_sbLow u8 (by omega)] at b3
          exact g3 i (d5 e (by omega) i hi b1 b2 b3 b4)
      · intro e he
        rw [u3] at he
        by_cases hed : e = qc_d (qm_run tb W k)
        · have her : qc_er (qm_run tb W k') (qc_d (qm_run tb W k)) = qc_n (qm_run tb W k) + (z - qc_B (qm_run tb W0 K0) z) := by omega
          have hes := (J'.1.2.2.2 (qc_d (qm_run tb W k)) (by omega)).2.2.2.1
          rw [qf_sbLow u8 (Nat.le_refl _)] at hes
          unfold qm_sy at hes
          rw [if_pos (by omega), her, ← hzz.1.2.1] at hes
          rw [hed, if_pos (by omega), u7, hes, pk_us, pk_us, pk_us, her, zx_ow_hi (by omega), show qc_n (qm_run tb W k) + (z - qc_B (qm_run tb W0 K0) z) - qc_n (qm_run tb W k) + qc_B (qm_run tb W0 K0) z = z by omega]
          exact ⟨rfl, rfl, rfl⟩
        · obtain ⟨l1, l2, l3, l4⟩ := u8 e (by omega)
          obtain ⟨m1, m2, m3⟩ := d6 e (by omega)
          rw [pk_un hed, pk_un hed, pk_un hed, l1, l2, l3, m1]
          refine ⟨?_, m2, m3⟩
          by_cases hc : qc_er (qm_run tb W k) e < 256
          · rw [if_pos hc, if_pos hc]
            rcases (J.1.2.2.2 e (by omega)).2.2.2.2 with g | g
            · rw [g.1] at hc; omega
            · rw [zx_ow_lo (qj_erN J (by omega) g)]
          · rw [if_neg hc, if_neg hc]
end
end
section
section
variable {tb : qm_T} {W0 W : qm_W} {n0 fc kp K0 k : Nat} {o ow fs src rs FF LL bk : Nat → Nat} {bn : Nat → Int32} {pn : Int32} {f_tokenTotal f_tokenLimit f_freeCount f_storedCount f_newCount f_depth f_pos f_stale f_lastVerdict f_keptCount f_parseNumber : Int32} {a_ruleLhs a_ruleLen a_ruleRhs a_cells a_tokens a_nodeRule a_nodeFirst a_nodeLast a_nodeBorn a_nodeState a_nodeLook a_nodeSize a_numberOf a_nodeBroken a_nodeReused a_kids a_freeSlots a_order a_newOrder a_headAt a_entryNode a_entryFirst a_entryState : Nat → Int32}
theorem wx_step {post : Int32 → SX → Prop} (ht : zr_t a_ruleLhs a_ruleLen a_ruleRhs a_cells tb) (hw : zr_w a_tokens W) (hw0 : qm_wv W0) (hG0 : qm_goes tb W0 K0) (hn : n0 = qc_n (qm_run tb W0 K0)) (hn0 : n0 ≤ 124) (hS : zx_S n0 o fs a_freeSlots a_order) (hh : zx_h n0 o FF bk a_headAt) (hp : zr_p W0 W (qm_run tb W0 K0) n0 FF LL bk) (hG : qm_goes tb W k) (hQ : zx_Q tb (qm_run tb W0 K0) (qm_run tb W k) (qc_n (qm_run tb W k)) n0 o ow src rs FF LL bk bn pn a_nodeRule a_nodeFirst a_nodeLast a_nodeBorn a_nodeState a_nodeLook a_nodeSize a_nodeBroken a_kids a_numberOf a_nodeReused a_newOrder) (hD : zx_D W (qm_run tb W0 K0) (qm_run tb W k) n0 ow fs src rs FF LL bk fc kp a_entryNode a_entryFirst a_entryState)
    (h0 : ¬ qm_go tb W (qm_run tb W k) → post (nI (qm_vd tb W (qm_run tb W k))) (nI W.2, f_tokenLimit, nI fc, nI n0, nI (qc_n (qm_run tb W k)), nI (qc_d (qm_run tb W k)), nI (qc_p (qm_run tb W k)), f_stale, f_lastVerdict, nI kp, pn, a_ruleLhs, a_ruleLen, a_ruleRhs, a_cells, a_tokens, a_nodeRule, a_nodeFirst, a_nodeLast, a_nodeBorn, a_nodeState, a_nodeLook, a_nodeSize, a_numberOf, a_nodeBroken, a_nodeReused, a_kids, a_freeSlots, a_order, a_newOrder, a_headAt, a_entryNode, a_entryFirst, a_entryState))
    (h1 : qm_go tb W (qm_run tb W k) → ∀ (k' fc' kp' : Nat) (ow' src' rs' : Nat → Nat) (v1 v2 v3 v4 v5 v6 v7 v8 v9 v10 v11 v12 v13 v14 v15 : Nat → Int32), k < k' → qm_goes tb W k' → zx_Q tb (qm_run tb W0 K0) (qm_run tb W k') (qc_n (qm_run tb W k')) n0 o ow' src' rs' FF LL bk bn pn v1 v2 v3 v4 v5 v6 v7 v8 v9 v10 v11 v12 → zx_D W (qm_run tb W0 K0) (qm_run tb W k') n0 ow' fs src' rs' FF LL bk fc' kp' v13 v14 v15 → post 0 (nI W.2, f_tokenLimit, nI fc', nI n0, nI (qc_n (qm_run tb W k')), nI (qc_d (qm_run tb W k')), nI (qc_p (qm_run tb W k')), f_stale, f_lastVerdict, nI kp', pn, a_ruleLhs, a_ruleLen, a_ruleRhs, a_cells, a_tokens, v1, v2, v3, v4, v5, v6, v7, v10, v8, v11, v9, a_freeSlots, a_order, v12, a_headAt, v13, v14, v15)) : wpX_step post (nI W.2, f_tokenLimit, nI fc, nI n0, nI (qc_n (qm_run tb W k)), nI (qc_d (qm_run tb W k)), nI (qc_p (qm_run tb W k)), f_stale, f_lastVerdict, nI kp, pn, a_ruleLhs, a_ruleLen, a_ruleRhs, a_cells, a_tokens, a_nodeRule, a_nodeFirst, a_nodeLast, a_nodeBorn, a_nodeState, a_nodeLook, a_nodeSize, a_numberOf, a_nodeBroken, a_nodeReused, a_kids, a_freeSlots, a_order, a_newOrder, a_headAt, a_entryNode, a_entryFirst, a_entryState) := by
  have hv := ht.1
  have hwv := zr_wv hw
  have J := qm_Jk hv hwv k hG
  have J0 := qm_Jk hv hw0 K0 hG0
  obtain ⟨_, c2, c3, c4, _⟩ := qj_cnt hv hwv J
  have htop : qm_top (qm_run tb W k) < 16 := qj_top J (Nat.le_refl _)
  have hla : qm_la W (qm_run tb W k) ≤ 7 := (qm_sym_le hwv _).1
  have hce := ht.2.2 (qm_top (qm_run tb W k) * 12 + qm_la W (qm_run tb W k)) (by omega)
  have hav := qm_actv hv hwv J
  have hl4 : ∀ i, i < n0 → qt_ln tb (qc_R (qm_run tb W0 K0) i) ≤ 4 := fun i hi => (ht.2.1 _ (J0.2.1 i (by omega)).1.1).2.2.2.1
  unfold wpX_step
  refine wx_top (by omega) hD.2.2.2.2.2 ?_
  refine wx_sym hw (by omega) ?_
  have ela : qm_sym W (qc_p (qm_run tb W k)) = qm_la W (qm_run tb W k) := rfl
  rw [ela, zz_m12]
  refine And.intro (pk_in (qm_top (qm_run tb W k) * 12 + qm_la W (qm_run tb W k)) 192 (by omega)) (nm_r (e' := nI (qm_act tb W (qm_run tb W k))) (zz_at _ rfl (by omega) hce.1) ?_)
  have ha43 : qm_act tb W (qm_run tb W k) ≤ 43 := hce.2
  unfold qm_vd at h0
  refine pk_eq (qm_act tb W (qm_run tb W k)) 0 (fun hz => ?_) (fun hz => ?_)
  · have := h0 (fun hg => hg.1 hz)
    rw [if_pos hz] at this
    exact this
  · rw [if_neg hz] at h0
    refine pk_eq (qm_act tb W (qm_run tb W k)) 16 (fun h16 => ?_) (fun h16 => ?_)
    · rw [if_pos h16] at h0
      have hng : ¬ qm_go tb W (qm_run tb W k) := fun hg => hg.2.1 h16
      have H := h0 hng
      refine pk_eq (qc_d (qm_run tb W k)) 1 (fun hd => ?_) (fun hd => ?_)
      · have hE := (hD.2.2.2.2.2 0 (by omega)).1
        rcases (J.1.2.2.2 0 (by omega)).2.2.2.2 with g | g
        · have g1 := g.1
          rw [if_neg (by omega)] at hE H
          exact br_t (by rw [hE]; decide) H
        · have hx := qj_erN J (by omega) g
          have hs1 := (hQ.2.1 _ hx).1
          rw [if_pos g.1] at hE
          rw [if_pos ⟨hd, g.1⟩] at H
          refine br_f ?_ H
          rw [hE]
          exact nI_pos (by omega)
      · rw [if_neg (by omega)] at H
        exact H
    · rw [if_neg h16] at h0
      refine pk_lt (qm_act tb W (qm_run tb W k)) 32 (fun h32 => ?_) (fun h32 => ?_)
      · have h15 : qm_act tb W (qm_run tb W k) ≤ 15 := by omega
        exact wx_shift ht hw hw0 hG0 hn hn0 hS hh hp hG hQ hD hz h15 (h1 ⟨hz, h16, fun z => by omega⟩)
      · rw [zz_s32 h32]
        refine wx_red ht hw J hn0 hl4 hS hQ hD (by omega) (fun hnk => ?_) (fun hk fc' ow' src' v1 v2 v3 v4 v5 v6 v7 v8 v9 v10 v11 v12 v13 v14 v15 hQ' hD' => ?_)
        · exact h0 (fun hg => hnk (hg.2.2 (by omega)))
        · have hgo : qm_go tb W (qm_run tb W k) := ⟨hz, h16, fun _ => hk⟩
          have hnx : qm_run tb W (k + 1) = qm_rd tb (qm_run tb W k) (qm_act tb W (qm_run tb W k) - 32) (qm_la W (qm_run tb W k)) := by
            show qm_nx tb W (qm_run tb W k) = _
            unfold qm_nx; rw [if_neg (by omega)]
          have H := h1 hgo (k + 1) fc' kp ow' src' rs v1 v2 v3 v4 v5 v6 v7 v8 v9 v10 v11 v12 v13 v14 v15 (by omega) (qm_goes1 hG hgo)
          rw [hnx] at H
          exact H hQ' hD'
end
section
variable {tb : qm_T} {W0 W : qm_W} {n0 K0 KF : Nat} {o fs FF LL bk : Nat → Nat} {bn : Nat → Int32} {pn : Int32} {f_tokenTotal f_tokenLimit f_freeCount f_storedCount f_newCount f_depth f_pos f_stale f_lastVerdict f_keptCount f_parseNumber : Int32} {a_ruleLhs a_ruleLen a_ruleRhs a_cells a_tokens a_nodeRule a_nodeFirst a_nodeLast a_nodeBorn a_nodeState a_nodeLook a_nodeSize a_numberOf a_nodeBroken a_nodeReused a_kids a_freeSlots a_order a_newOrder a_headAt a_entryNode a_entryFirst a_entryState : Nat → Int32}
theorem wx_50 {post : Int32 → SX → Prop} (ht : zr_t a_ruleLhs a_ruleLen a_ruleRhs a_cells tb) (hw : zr_w a_tokens W) (hw0 : qm_wv W0) (hG0 : qm_goes tb W0 K0) (hn : n0 = qc_n (qm_run tb W0 K0)) (hn0 : n0 ≤ 124) (hS : zx_S n0 o fs a_freeSlots a_order) (hh : zx_h n0 o FF bk a_headAt) (hp : zr_p W0 W (qm_run tb W0 K0) n0 FF LL bk) (hGF : qm_goes tb W KF) (hH : ¬ qm_go tb W (qm_run tb W KF))
    (hend : ∀ (fc kp : Nat) (ow src rs : Nat → Nat) (v1 v2 v3 v4 v5 v6 v7 v8 v9 v10 v11 v12 v13 v14 v15 : Nat → Int32), zx_Q tb (qm_run tb W0 K0) (qm_run tb W KF) (qc_n (qm_run tb W KF)) n0 o ow src rs FF LL bk bn pn v1 v2 v3 v4 v5 v6 v7 v8 v9 v10 v11 v12 → zx_D W (qm_run tb W0 K0) (qm_run tb W KF) n0 ow fs src rs FF LL bk fc kp v13 v14 v15 → wX_reparse_72 post (nI (qm_vd tb W (qm_run tb W KF))) (nI W.2) f_tokenLimit (nI fc) (nI n0) (nI (qc_n (qm_run tb W KF))) (nI (qc_d (qm_run tb W KF))) (nI (qc_p (qm_run tb W KF))) f_stale f_lastVerdict (nI kp) pn a_ruleLhs a_ruleLen a_ruleRhs a_cells a_tokens v1 v2 v3 v4 v5 v6 v7 v10 v8 v11 v9 a_freeSlots a_order v12 a_headAt v13 v14 v15) :
    ∀ j k, KF - k ≤ j → k ≤ KF → ∀ i, i ≤ k → ∀ n, j + 1 < n → ∀ (fc kp : Nat) (ow src rs : Nat → Nat) (v1 v2 v3 v4 v5 v6 v7 v8 v9 v10 v11 v12 v13 v14 v15 : Nat → Int32), zx_Q tb (qm_run tb W0 K0) (qm_run tb W k) (qc_n (qm_run tb W k)) n0 o ow src rs FF LL bk bn pn v1 v2 v3 v4 v5 v6 v7 v8 v9 v10 v11 v12 → zx_D W (qm_run tb W0 K0) (qm_run tb W k) n0 ow fs src rs FF LL bk fc kp v13 v14 v15 → wX_reparse_50 post n 0 (nI i) (nI W.2) f_tokenLimit (nI fc) (nI n0) (nI (qc_n (qm_run tb W k))) (nI (qc_d (qm_run tb W k))) (nI (qc_p (qm_run tb W k))) f_stale f_lastVerdict (nI kp) pn a_ruleLhs a_ruleLen a_ruleRhs a_cells a_tokens v1 v2 v3 v4 v5 v6 v7 v10 v8 v11 v9 a_freeSlots a_order v12 a_headAt v13 v14 v15 := by
  have hv := ht.1
  have hwv := zr_wv hw
  have hK := qm_k140 hv hwv hGF
  have hstop : ∀ (n i : Nat), 0 < n → i ≤ 160 → ∀ (fc kp : Nat) (ow src rs : Nat → Nat) (v1 v2 v3 v4 v5 v6 v7 v8 v9 v10 v11 v12 v13 v14 v15 : Nat → Int32), zx_Q tb (qm_run tb W0 K0) (qm_run tb W KF) (qc_n (qm_run tb W KF)) n0 o ow src rs FF LL bk bn pn v1 v2 v3 v4 v5 v6 v7 v8 v9 v10 v11 v12 → zx_D W (qm_run tb W0 K0) (qm_run tb W KF) n0 ow fs src rs FF LL bk fc kp v13 v14 v15 → wX_reparse_50 post n (nI (qm_vd tb W (qm_run tb W KF))) (nI i) (nI W.2) f_tokenLimit (nI fc) (nI n0) (nI (qc_n (qm_run tb W KF))) (nI (qc_d (qm_run tb W KF))) (nI (qc_p (qm_run tb W KF))) f_stale f_lastVerdict (nI kp) pn a_ruleLhs a_ruleLen a_ruleRhs a_cells a_tokens v1 v2 v3 v4 v5 v6 v7 v10 v8 v11 v9 a_freeSlots a_order v12 a_headAt v13 v14 v15 := by
    intro n i hn' hi fc kp ow src rs v1 v2 v3 v4 v5 v6 v7 v8 v9 v10 v11 v12 v13 v14 v15 hQ hD
    obtain ⟨n, rfl⟩ : ∃ m, n = m + 1 := ⟨n - 1, by omega⟩
    have hvd := qm_vd_in tb W (qm_run tb W KF)
    have hE := hend fc kp ow src rs v1 v2 v3 v4 v5 v6 v7 v8 v9 v10 v11 v12 v13 v14 v15 hQ hD
    exact br_c (fun _ => hE) (fun _ => pk_eq (qm_vd tb W (qm_run tb W KF)) 0 (fun hz => by omega) (fun _ => hE))
  intro j
  induction j with
  | zero =>
    intro k hk hkF i hi n hn' fc kp ow src rs v1 v2 v3 v4 v5 v6 v7 v8 v9 v10 v11 v12 v13 v14 v15 hQ hD
    obtain ⟨n, rfl⟩ : ∃ m, n = m + 1 := ⟨n - 1, by omega⟩
    have hkK : k = KF := by omega
    subst hkK
    refine pk_le 160 i (fun h => by omega) (fun _ => br_t rfl ?_)
    refine wx_step ht hw hw0 hG0 hn hn0 hS hh hp hGF hQ hD (fun _ => ?_) (fun hg => absurd hg hH)
    refine nm_r (nI_1 i) ?_
    exact hstop n (i + 1) (by omega) (by omega) fc kp ow src rs v1 v2 v3 v4 v5 v6 v7 v8 v9 v10 v11 v12 v13 v14 v15 hQ hD
  | succ j ih =>
    intro k hk hkF i hi n hn' fc kp ow src rs v1 v2 v3 v4 v5 v6 v7 v8 v9 v10 v11 v12 v13 v14 v15 hQ hD
    obtain ⟨n, rfl⟩ : ∃ m, n = m + 1 := ⟨n - 1, by omega⟩
    refine pk_le 160 i (fun h => by omega) (fun _ => br_t rfl ?_)
    refine wx_step ht hw hw0 hG0 hn hn0 hS hh hp (qm_goesLe hGF hkF) hQ hD (fun hng => ?_) (fun hg k' fc' kp' ow' src' rs' w1 w2 w3 w4 w5 w6 w7 w8 w9 w10 w11 w12 w13 w14 w15 g1 g2 hQ' hD' => ?_)
    · have hkK : k = KF := by
        by_cases h : k < KF
        · exact absurd (hGF k h) hng
        · omega
      subst hkK
      refine nm_r (nI_1 i) ?_
      exact hstop n (i + 1) (by omega) (by omega) fc kp ow src rs v1 v2 v3 v4 v5 v6 v7 v8 v9 v10 v11 v12 v13 v14 v15 hQ hD
    · have hk'F : k' ≤ KF := by
        by_cases h : KF < k'
        · exact absurd (g2 KF h) hH
        · omega
      refine nm_r (nI_1 i) ?_
      exact ih k' (by omega) hk'F (i + 1) (by omega) n (by omega) fc' kp' ow' src' rs' w1 w2 w3 w4 w5 w6 w7 w8 w9 w10 w11 w12 w13 w14 w15 hQ' hD'
end
end
section
theorem zc_lip {f : Nat → Nat} {n : Nat} : ∀ m, zc_n f (n + m) ≤ zc_n f n + m := by
  intro m
  induction m with
  | zero => exact Nat.le_refl _
  | succ m ih =>
    show zc_n f (n + m) + (if f (n + m) = 0 then 0 else 1) ≤ zc_n f n + (m + 1)
    by_cases h : f (n + m) = 0
    · rw [if_pos h]; omega
    · rw [if_neg h]; omega
theorem zc_0 : ∀ n, zc_n (fun _ => 0) n = 0 := by
  intro n
  induction n with
  | zero => rfl
  | succ n ih => show zc_n (fun _ => 0) n + (if 0 = 0 then 0 else 1) = 0; rw [ih, if_pos rfl]
section
variable {tb : qm_T} {c0 : qm_C} {n0 : Nat} {o FF LL bk : Nat → Nat} {bn : Nat → Int32} {f_tokenTotal f_tokenLimit f_freeCount f_storedCount f_newCount f_depth f_pos f_stale f_lastVerdict f_keptCount f_parseNumber : Int32} {a_ruleLhs a_ruleLen a_ruleRhs a_cells a_tokens a_nodeRule a_nodeFirst a_nodeLast a_nodeBorn a_nodeState a_nodeLook a_nodeSize a_numberOf a_nodeBroken a_nodeReused a_kids a_freeSlots a_order a_newOrder a_headAt a_entryNode a_entryFirst a_entryState : Nat → Int32}
theorem wx_h23 {post : SX → Prop} (hn0 : n0 ≤ 124) (hO : zr_o tb c0 n0 o FF LL bk bn a_nodeRule a_nodeFirst a_nodeLast a_nodeBorn a_nodeState a_nodeLook a_nodeSize a_nodeBroken a_kids) (ho : ∀ i, i < n0 → a_order i = nI (o i)) (hb : ∀ i, i < n0 → bk i ≤ 1 ∧ (bk i = 0 → FF i < 16))
    (h : ∀ v18 : Nat → Int32, zx_h n0 o FF bk v18 → post (f_tokenTotal, f_tokenLimit, f_freeCount, nI n0, f_newCount, f_depth, f_pos, f_stale, f_lastVerdict, f_keptCount, f_parseNumber, a_ruleLhs, a_ruleLen, a_ruleRhs, a_cells, a_tokens, a_nodeRule, a_nodeFirst, a_nodeLast, a_nodeBorn, a_nodeState, a_nodeLook, a_nodeSize, a_numberOf, a_nodeBroken, a_nodeReused, a_kids, a_freeSlots, a_order, a_newOrder, v18, a_entryNode, a_entryFirst, a_entryState)) :
    ∀ d i, i + d = n0 → ∀ n, d < n → ∀ v18 : Nat → Int32, zx_h i o FF bk v18 → wX_findHeads_23 post f_tokenTotal f_tokenLimit f_freeCount (nI n0) f_newCount f_depth f_pos f_stale f_lastVerdict f_keptCount f_parseNumber n (nI i) a_ruleLhs a_ruleLen a_ruleRhs a_cells a_tokens a_nodeRule a_nodeFirst a_nodeLast a_nodeBorn a_nodeState a_nodeLook a_nodeSize a_numberOf a_nodeBroken a_nodeReused a_kids a_freeSlots a_order a_newOrder v18 a_entryNode a_entryFirst a_entryState := by
  intro d
  induction d with
  | zero =>
    intro i hi n hn v18 hH
    obtain ⟨n, rfl⟩ : ∃ m, n = m + 1 := ⟨n - 1, by omega⟩
    have hin : i = n0 := by omega
    subst hin
    exact pk_le i i (fun _ => h v18 hH) (fun h => by omega)
  | succ d ih =>
    intro i hi n hn v18 hH
    obtain ⟨n, rfl⟩ : ∃ m, n = m + 1 := ⟨n - 1, by omega⟩
    have hin : i < n0 := by omega
    obtain ⟨s1, s2, s3, s4, s5, s6, s7, s8, s9⟩ := hO i hin
    obtain ⟨b1, b2⟩ := hb i hin
    have vs : vp_in (nI (o i)) 248 := pk_in (o i) 248 s1
    refine pk_le n0 i (fun h => by omega) (fun _ => ?_)
    refine And.intro (pk_in i 124 (by omega)) (nm_r (zz_at i rfl (by omega) (ho i hin)) (And.intro vs ?_))
    by_cases hbi : bk i = 0
    · have hF := b2 hbi
      refine nm_r (zz_at (o i) rfl (by omega) (s8 hbi).1) (And.intro vs ?_)
      refine pk_eq (bk i) 0 (fun _ => ?_) (fun h => absurd hbi h) (zz_at (o i) rfl (by omega) s7) rfl
      refine pk_lt (FF i) 0 (fun h => by omega) (fun _ => ?_)
      refine pk_le 16 (FF i) (fun h => by omega) (fun _ => ?_)
      refine And.intro (pk_in (FF i) 16 hF) (nm_r (zz_up (FF i) rfl (by omega) rfl) (nm_r (nI_1 i) ?_))
      refine ih (i + 1) (by omega) n (by omega) _ ?_
      intro p hp
      by_cases hpF : p = FF i
      · refine Or.inr ⟨i, by omega, ?_, hbi, hpF.symm, fun j hj _ _ => by omega⟩
        rw [hpF, pk_us]
      · rw [pk_un hpF]
        rcases hH p hp with ⟨a1, a2⟩ | ⟨j, a1, a2, a3, a4, a5⟩
        · refine Or.inl ⟨a1, fun j hj hjb => ?_⟩
          by_cases hji : j = i
          · rw [hji]; exact fun e => hpF e.symm
          · exact a2 j (by omega) hjb
        · refine Or.inr ⟨j, by omega, a2, a3, a4, fun j' hj' hjb hjF => ?_⟩
          by_cases hji : j' = i
          · rw [hji] at hjF; exact absurd hjF.symm hpF
          · exact a5 j' (by omega) hjb hjF
    · refine nm_e (And.intro vs ?_)
      refine pk_eq (bk i) 0 (fun h => absurd h hbi) (fun _ => ?_) (zz_at (o i) rfl (by omega) s7) rfl
      refine nm_r (nI_1 i) ?_
      refine ih (i + 1) (by omega) n (by omega) _ ?_
      intro p hp
      rcases hH p hp with ⟨a1, a2⟩ | ⟨j, a1, a2, a3, a4, a5⟩
      · refine Or.inl ⟨a1, fun j hj hjb => ?_⟩
        by_cases hji : j = i
        · rw [hji] at hjb; exact absurd hjb hbi
        · exact a2 j (by omega) hjb
      · refine Or.inr ⟨j, by omega, a2, a3, a4, fun j' hj' hjb hjF => ?_⟩
        by_cases hji : j' = i
        · rw [hji] at hjb; exact absurd hjb hbi
        · exact a5 j' (by omega) hjb hjF
theorem wx_heads {post : SX → Prop} (hn0 : n0 ≤ 124) (hO : zr_o tb c0 n0 o FF LL bk bn a_nodeRule a_nodeFirst a_nodeLast a_nodeBorn a_nodeState a_nodeLook a_nodeSize a_nodeBroken a_kids) (ho : ∀ i, i < n0 → a_order i = nI (o i)) (hb : ∀ i, i < n0 → bk i ≤ 1 ∧ (bk i = 0 → FF i < 16))
    (h : ∀ v18 : Nat → Int32, zx_h n0 o FF bk v18 → post (f_tokenTotal, f_tokenLimit, f_freeCount, nI n0, f_newCount, f_depth, f_pos, f_stale, f_lastVerdict, f_keptCount, f_parseNumber, a_ruleLhs, a_ruleLen, a_ruleRhs, a_cells, a_tokens, a_nodeRule, a_nodeFirst, a_nodeLast, a_nodeBorn, a_nodeState, a_nodeLook, a_nodeSize, a_numberOf, a_nodeBroken, a_nodeReused, a_kids, a_freeSlots, a_order, a_newOrder, v18, a_entryNode, a_entryFirst, a_entryState)) : wpX_findHeads post (f_tokenTotal, f_tokenLimit, f_freeCount, nI n0, f_newCount, f_depth, f_pos, f_stale, f_lastVerdict, f_keptCount, f_parseNumber, a_ruleLhs, a_ruleLen, a_ruleRhs, a_cells, a_tokens, a_nodeRule, a_nodeFirst, a_nodeLast, a_nodeBorn, a_nodeState, a_nodeLook, a_nodeSize, a_numberOf, a_nodeBroken, a_nodeReused, a_kids, a_freeSlots, a_order, a_newOrder, a_headAt, a_entryNode, a_entryFirst, a_entryState) := by
  have H : ∀ d p, p + d = 16 → ∀ n, d < n → ∀ v18 : Nat → Int32, (∀ q, q < p → v18 q = -1) → wX_findHeads_2 post f_tokenTotal f_tokenLimit f_freeCount (nI n0) f_newCount f_depth f_pos f_stale f_lastVerdict f_keptCount f_parseNumber n (nI p) a_ruleLhs a_ruleLen a_ruleRhs a_cells a_tokens a_nodeRule a_nodeFirst a_nodeLast a_nodeBorn a_nodeState a_nodeLook a_nodeSize a_numberOf a_nodeBroken a_nodeReused a_kids a_freeSlots a_order a_newOrder v18 a_entryNode a_entryFirst a_entryState := by
    intro d
    induction d with
    | zero =>
      intro p hp n hn v18 hv
      obtain ⟨n, rfl⟩ : ∃ m, n = m + 1 := ⟨n - 1, by omega⟩
      refine pk_le 16 p (fun _ => ⟨n0 + 1, ?_⟩) (fun h => by omega)
      refine wx_h23 hn0 hO ho hb h n0 0 (by omega) _ (by omega) v18 ?_
      intro q hq
      exact Or.inl ⟨hv q (by omega), fun i hi => absurd hi (Nat.not_lt_zero _)⟩
    | succ d ih =>
      intro p hp n hn v18 hv
      obtain ⟨n, rfl⟩ : ∃ m, n = m + 1 := ⟨n - 1, by omega⟩
      refine pk_le 16 p (fun h => by omega) (fun _ => ?_)
      refine And.intro (pk_in p 16 (by omega)) (nm_r (zz_up p rfl (by omega) rfl) (nm_r (nI_1 p) ?_))
      refine ih (p + 1) (by omega) n (by omega) _ ?_
      intro q hq
      by_cases hqp : q = p
      · rw [hqp, pk_us]
      · rw [pk_un hqp]; exact hv q (by omega)
  exact ⟨17, H 16 0 (by omega) 17 (by omega) a_headAt (fun q hq => absurd hq (Nat.not_lt_zero _))⟩
end
/-- the free slots while old nodes are given back -/
def zx_f (n i n0 fc : Nat) (o ow fs : Nat → Nat) (a_freeSlots : Nat → Int32) : Prop := (∀ j, j < fc → fs j < 248 ∧ a_freeSlots j = nI (fs j) ∧ (∀ x, x < n → fs j ≠ ow x) ∧ ∀ i', i ≤ i' → i' < n0 → fs j ≠ o i') ∧ zx_inj fs fc
section
variable {n n0 : Nat} {o ow src rs : Nat → Nat} {f_tokenTotal f_tokenLimit f_freeCount f_storedCount f_newCount f_depth f_pos f_stale f_lastVerdict f_keptCount f_parseNumber : Int32} {a_ruleLhs a_ruleLen a_ruleRhs a_cells a_tokens a_nodeRule a_nodeFirst a_nodeLast a_nodeBorn a_nodeState a_nodeLook a_nodeSize a_numberOf a_nodeBroken a_nodeReused a_kids a_freeSlots a_order a_newOrder a_headAt a_entryNode a_entryFirst a_entryState : Nat → Int32}
theorem wx_rel {post : SX → Prop} {fc s : Nat} (hf : fc < 248) (h : post (f_tokenTotal, f_tokenLimit, nI (fc + 1), f_storedCount, f_newCount, f_depth, f_pos, f_stale, f_lastVerdict, f_keptCount, f_parseNumber, a_ruleLhs, a_ruleLen, a_ruleRhs, a_cells, a_tokens, a_nodeRule, a_nodeFirst, a_nodeLast, a_nodeBorn, a_nodeState, a_nodeLook, a_nodeSize, a_numberOf, a_nodeBroken, a_nodeReused, a_kids, upd a_freeSlots fc (nI s), a_order, a_newOrder, a_headAt, a_entryNode, a_entryFirst, a_entryState)) : wpX_releaseSlot post (f_tokenTotal, f_tokenLimit, nI fc, f_storedCount, f_newCount, f_depth, f_pos, f_stale, f_lastVerdict, f_keptCount, f_parseNumber, a_ruleLhs, a_ruleLen, a_ruleRhs, a_cells, a_tokens, a_nodeRule, a_nodeFirst, a_nodeLast, a_nodeBorn, a_nodeState, a_nodeLook, a_nodeSize, a_numberOf, a_nodeBroken, a_nodeReused, a_kids, a_freeSlots, a_order, a_newOrder, a_headAt, a_entryNode, a_entryFirst, a_entryState) (nI s) := by
  refine pk_le 248 fc (fun h => by omega) (fun _ => ?_)
  exact And.intro (pk_in fc 248 hf) (nm_r (zz_up fc rfl (by omega) rfl) (nm_r (nI_1 fc) h))
theorem wx_49 {post : SX → Prop} (hn : n ≤ 124) (h : ∀ v17 : Nat → Int32, (∀ j, j < n → v17 j = a_newOrder j) → post (f_tokenTotal, f_tokenLimit, f_freeCount, nI n, nI n, f_depth, f_pos, f_stale, f_lastVerdict, f_keptCount, f_parseNumber, a_ruleLhs, a_ruleLen, a_ruleRhs, a_cells, a_tokens, a_nodeRule, a_nodeFirst, a_nodeLast, a_nodeBorn, a_nodeState, a_nodeLook, a_nodeSize, a_numberOf, a_nodeBroken, a_nodeReused, a_kids, a_freeSlots, v17, a_newOrder, a_headAt, a_entryNode, a_entryFirst, a_entryState)) :
    ∀ d i, i + d = n → ∀ m, d < m → ∀ v17 : Nat → Int32, (∀ j, j < i → v17 j = a_newOrder j) → wX_adoptNewNodes_49 post f_tokenTotal f_tokenLimit f_freeCount f_storedCount (nI n) f_depth f_pos f_stale f_lastVerdict f_keptCount f_parseNumber m (nI i) a_ruleLhs a_ruleLen a_ruleRhs a_cells a_tokens a_nodeRule a_nodeFirst a_nodeLast a_nodeBorn a_nodeState a_nodeLook a_nodeSize a_numberOf a_nodeBroken a_nodeReused a_kids a_freeSlots v17 a_newOrder a_headAt a_entryNode a_entryFirst a_entryState := by
  intro d
  induction d with
  | zero =>
    intro i hi m hm v17 hv
    obtain ⟨m, rfl⟩ : ∃ k, m = k + 1 := ⟨m - 1, by omega⟩
    have hin : i = n := by omega
    subst hin
    exact pk_le i i (fun _ => h v17 hv) (fun h => by omega)
  | succ d ih =>
    intro i hi m hm v17 hv
    obtain ⟨m, rfl⟩ : ∃ k, m = k + 1 := ⟨m - 1, by omega⟩
    have vi : vp_in (nI i) 124 := pk_in i 124 (by omega)
    refine pk_le n i (fun h => by omega) (fun _ => ?_)
    refine And.intro vi (And.intro vi (nm_r (zz_up i rfl (by omega) (zz_at i rfl (by omega) rfl)) (nm_r (nI_1 i) ?_)))
    refine ih (i + 1) (by omega) m (by omega) _ ?_
    intro j hj
    by_cases hji : j = i
    · rw [hji, pk_us]
    · rw [pk_un hji]; exact hv j (by omega)
theorem wx_ad2 {post : SX → Prop} (hn : n ≤ 124) (hn0 : n0 ≤ 124) (hi : zx_inj o n0) (ho : ∀ i, i < n0 → a_order i = nI (o i) ∧ o i < 248) (hr : ∀ i, i < n0 → rs i ≤ 1) (hrw : ∀ i x, i < n0 → rs i = 0 → x < n → ow x ≠ o i) (hw : ∀ x, x < n → src x = 0 → ∀ i, i < n0 → ow x ≠ o i) (hw1 : ∀ x, x < n → src x ≠ 0 → src x - 1 < n0 ∧ ow x = o (src x - 1))
    (h : ∀ (fs : Nat → Nat) (v11 v16 v17 : Nat → Int32), zx_f n n0 n0 (248 - n) o ow fs v16 → (∀ x, x < n → v11 (ow x) = 0) → (∀ j, j < n → v17 j = a_newOrder j) → post (f_tokenTotal, f_tokenLimit, nI (248 - n), nI n, nI n, f_depth, f_pos, f_stale, f_lastVerdict, f_keptCount, f_parseNumber, a_ruleLhs, a_ruleLen, a_ruleRhs, a_cells, a_tokens, a_nodeRule, a_nodeFirst, a_nodeLast, a_nodeBorn, a_nodeState, a_nodeLook, a_nodeSize, a_numberOf, a_nodeBroken, v11, a_kids, v16, v17, a_newOrder, a_headAt, a_entryNode, a_entryFirst, a_entryState)) :
    ∀ d i, i + d = n0 → ∀ m, d < m → ∀ (fc : Nat) (fs : Nat → Nat) (v11 v16 : Nat → Int32), zx_f n i n0 fc o ow fs v16 → fc + (n0 - i) + n + zc_n rs i = 248 + zc_n rs n0 → (∀ j, j < n0 → i ≤ j → v11 (o j) = nI (rs j)) → (∀ j, j < i → v11 (o j) = 0) → (∀ x, x < n → src x = 0 → v11 (ow x) = 0) → wX_adoptNewNodes_2 post m (nI i) f_tokenTotal f_tokenLimit (nI fc) (nI n0) (nI n) f_depth f_pos f_stale f_lastVerdict f_keptCount f_parseNumber a_ruleLhs a_ruleLen a_ruleRhs a_cells a_tokens a_nodeRule a_nodeFirst a_nodeLast a_nodeBorn a_nodeState a_nodeLook a_nodeSize a_numberOf a_nodeBroken v11 a_kids v16 a_order a_newOrder a_headAt a_entryNode a_entryFirst a_entryState := by
  intro d
  induction d with
  | zero =>
    intro i hi' m hm fc fs v11 v16 hF hc h1 h2 h3
    obtain ⟨m, rfl⟩ : ∃ k, m = k + 1 := ⟨m - 1, by omega⟩
    have hin : i = n0 := by omega
    subst hin
    have hfc : fc = 248 - n := by omega
    subst hfc
    refine pk_le i i (fun _ => ⟨n + 1, ?_⟩) (fun h => by omega)
    refine wx_49 hn (fun v17 hv => h fs v11 v16 v17 hF ?_ hv) n 0 (by omega) _ (by omega) a_order (fun j hj => absurd hj (Nat.not_lt_zero _))
    intro x hx
    by_cases hs : src x = 0
    · exact h3 x hx hs
    · obtain ⟨k1, k2⟩ := hw1 x hx hs
      rw [k2]; exact h2 _ k1
  | succ d ih =>
    intro i hi' m hm fc fs v11 v16 hF hc h1 h2 h3
    obtain ⟨m, rfl⟩ : ∃ k, m = k + 1 := ⟨m - 1, by omega⟩
    have hin : i < n0 := by omega
    obtain ⟨o1, o2⟩ := ho i hin
    have hri := hr i hin
    have vs : vp_in (nI (o i)) 248 := pk_in (o i) 248 o2
    have hz1 : zc_n rs (i + 1) = zc_n rs i + (if rs i = 0 then 0 else 1) := rfl
    have hz2 := zc_lip (f := rs) (n := i + 1) (n0 - (i + 1))
    rw [show i + 1 + (n0 - (i + 1)) = n0 by omega] at hz2
    refine pk_le n0 i (fun h => by omega) (fun _ => ?_)
    refine And.intro (pk_in i 124 (by omega)) (nm_r (zz_at i rfl (by omega) o1) (And.intro vs ?_))
    refine pk_eq (rs i) 0 (fun hr0 => ?_) (fun hr0 => ?_) (zz_at (o i) rfl (by omega) (h1 i hin (Nat.le_refl _))) rfl
    · rw [if_pos hr0] at hz1
      refine wx_rel (by omega) ?_
      refine nm_r (nI_1 i) ?_
      refine ih (i + 1) (by omega) m (by omega) (fc + 1) (qm_up fs fc (o i)) v11 _ ⟨?_, ?_⟩ (by omega) (fun j j1 j2 => h1 j j1 (by omega)) ?_ h3
      · intro j hj
        by_cases hjf : j = fc
        · rw [hjf, qm_us, pk_us]
          refine ⟨o2, rfl, fun x hx he => hrw i x hin hr0 hx he.symm, fun i' h1' h2' he => ?_⟩
          have := hi _ _ hin h2' he
          omega
        · rw [qm_un hjf, pk_un hjf]
          obtain ⟨a1, a2, a3, a4⟩ := hF.1 j (by omega)
          exact ⟨a1, a2, a3, fun i' h1' h2' => a4 i' (by omega) h2'⟩
      · intro x y hx hy hxy
        by_cases hxf : x = fc
        · by_cases hyf : y = fc
          · omega
          · rw [hxf, qm_us, qm_un hyf] at hxy
            exact absurd hxy.symm ((hF.1 y (by omega)).2.2.2 i (Nat.le_refl _) hin)
        · by_cases hyf : y = fc
          · rw [hyf, qm_us, qm_un hxf] at hxy
            exact absurd hxy ((hF.1 x (by omega)).2.2.2 i (Nat.le_refl _) hin)
          · rw [qm_un hxf, qm_un hyf] at hxy
            exact hF.2 x y (by omega) (by omega) hxy
      · intro j hj
        by_cases hji : j = i
        · rw [hji, h1 i hin (Nat.le_refl _), hr0]; rfl
        · exact h2 j (by omega)
    · rw [if_neg hr0] at hz1
      refine And.intro vs (nm_r (zz_up (o i) rfl (by omega) zz_b0) (nm_r (nI_1 i) ?_))
      refine ih (i + 1) (by omega) m (by omega) fc fs _ v16 ⟨fun j hj => ?_, hF.2⟩ (by omega) ?_ ?_ ?_
      · obtain ⟨a1, a2, a3, a4⟩ := hF.1 j hj
        exact ⟨a1, a2, a3, fun i' h1' h2' => a4 i' (by omega) h2'⟩
      · intro j j1 j2
        rw [pk_un (fun he => by have := hi _ _ j1 hin he; omega)]
        exact h1 j j1 (by omega)
      · intro j hj
        by_cases hji : j = i
        · rw [hji, pk_us]
        · rw [pk_un (fun he => hji (hi _ _ (by omega) hin he))]; exact h2 j (by omega)
      · intro x hx hs
        rw [pk_un (hw x hx hs i hin)]
        exact h3 x hx hs
end
end
section
section
variable {tb : qm_T} {W0 W : qm_W} {n0 K0 KF : Nat} {o fs FF LL bk : Nat → Nat} {bn : Nat → Int32} {f_tokenTotal f_tokenLimit f_freeCount f_storedCount f_newCount f_depth f_pos f_stale f_lastVerdict f_keptCount f_parseNumber : Int32} {a_ruleLhs a_ruleLen a_ruleRhs a_cells a_tokens a_nodeRule a_nodeFirst a_nodeLast a_nodeBorn a_nodeState a_nodeLook a_nodeSize a_numberOf a_nodeBroken a_nodeReused a_kids a_freeSlots a_order a_newOrder a_headAt a_entryNode a_entryFirst a_entryState : Nat → Int32}
theorem zm_uniq {c : qm_C} {i i' x : Nat} (hv : qm_tv tb) (hw0 : qm_wv W0) (hG0 : qm_goes tb W0 K0) (hn : n0 = qc_n (qm_run tb W0 K0)) (hp : zr_p W0 W (qm_run tb W0 K0) n0 FF LL bk) (hi : i < n0) (hi' : i' < n0) (m : zm_m (qm_run tb W0 K0) c FF LL bk i x) (m' : zm_m (qm_run tb W0 K0) c FF LL bk i' x) : i = i' := by
  have J0 := qm_Jk hv hw0 K0 hG0
  obtain ⟨a0, a1, a2, a3, _⟩ := m
  obtain ⟨b0, b1, b2, b3, _⟩ := m'
  have hF := hp.2 i i' hi hi' a0 b0 (by omega)
  have h1 := (hp.1 i hi a0).2.2.1
  have h2 := (hp.1 i' hi' b0).2.2.1
  have hL : qc_L (qm_run tb W0 K0) i = qc_L (qm_run tb W0 K0) i' := by omega
  have hR : qc_R (qm_run tb W0 K0) i = qc_R (qm_run tb W0 K0) i' := by omega
  rcases Nat.lt_trichotomy i i' with h | h | h
  · have := (J0.2.2.2.2 i' i h (by omega) hF).2.2.2 hL
    rw [hR] at this
    exact absurd this (Nat.lt_irrefl _)
  · exact h
  · have := (J0.2.2.2.2 i i' h (by omega) hF.symm).2.2.2 hL.symm
    rw [hR] at this
    exact absurd this (Nat.lt_irrefl _)
theorem wx_reparse {post : Int32 → SX → Prop} (ht : zr_t a_ruleLhs a_ruleLen a_ruleRhs a_cells tb) (hw : zr_w a_tokens W) (hw0 : qm_wv W0) (hG0 : qm_goes tb W0 K0) (hn : n0 = qc_n (qm_run tb W0 K0)) (hn0 : n0 ≤ 124) (hS : zx_S n0 o fs a_freeSlots a_order) (hp : zr_p W0 W (qm_run tb W0 K0) n0 FF LL bk) (hb : ∀ i, i < n0 → bk i ≤ 1) (hO : zr_o tb (qm_run tb W0 K0) n0 o FF LL bk bn a_nodeRule a_nodeFirst a_nodeLast a_nodeBorn a_nodeState a_nodeLook a_nodeSize a_nodeBroken a_kids) (hO2 : ∀ i, i < n0 → a_numberOf (o i) = nI i ∧ a_nodeReused (o i) = 0)
    (hst : ¬ f_stale = 0) (hGF : qm_goes tb W KF) (hH : ¬ qm_go tb W (qm_run tb W KF))
    (h : ∀ (ow src fs' : Nat → Nat) (v1 v2 v3 v4 v5 v6 v7 v8 v9 v10 v11 v12 v13 v14 v15 v16 v17 v18 : Nat → Int32), zr_o tb (qm_run tb W KF) (qc_n (qm_run tb W KF)) ow (qc_F (qm_run tb W KF)) (qc_L (qm_run tb W KF)) (fun _ => 0) (zr_bs src bn (f_parseNumber + 1)) v1 v2 v3 v4 v5 v6 v7 v8 v9 → (∀ x, x < qc_n (qm_run tb W KF) → v10 (ow x) = nI x ∧ v11 (ow x) = 0) → zx_S (qc_n (qm_run tb W KF)) ow fs' v16 v17 → zx_e (qm_run tb W KF) ow v13 v14 v15 → (∀ x, x < qc_n (qm_run tb W KF) → src x = 0 → ∀ i, i < n0 → ¬ zm_m (qm_run tb W0 K0) (qm_run tb W KF) FF LL bk i x) → (∀ x, x < qc_n (qm_run tb W KF) → src x ≠ 0 → src x - 1 < n0 ∧ zm_m (qm_run tb W0 K0) (qm_run tb W KF) FF LL bk (src x - 1) x ∧ ∀ i, i < n0 → zm_m (qm_run tb W0 K0) (qm_run tb W KF) FF LL bk i x → i = src x - 1) → post (nI (qm_vd tb W (qm_run tb W KF))) (nI W.2, f_tokenLimit, nI (248 - qc_n (qm_run tb W KF)), nI (qc_n (qm_run tb W KF)), nI (qc_n (qm_run tb W KF)), nI (qc_d (qm_run tb W KF)), nI (qc_p (qm_run tb W KF)), 0, nI (qm_vd tb W (qm_run tb W KF)), nI (zc_n src (qc_n (qm_run tb W KF))), f_parseNumber + 1, a_ruleLhs, a_ruleLen, a_ruleRhs, a_cells, a_tokens, v1, v2, v3, v4, v5, v6, v7, v10, v8, v11, v9, v16, v17, v12, v18, v13, v14, v15)) :
    wpX_reparse post (nI W.2, f_tokenLimit, nI (248 - n0), nI n0, f_newCount, f_depth, f_pos, f_stale, f_lastVerdict, f_keptCount, f_parseNumber, a_ruleLhs, a_ruleLen, a_ruleRhs, a_cells, a_tokens, a_nodeRule, a_nodeFirst, a_nodeLast, a_nodeBorn, a_nodeState, a_nodeLook, a_nodeSize, a_numberOf, a_nodeBroken, a_nodeReused, a_kids, a_freeSlots, a_order, a_newOrder, a_headAt, a_entryNode, a_entryFirst, a_entryState) := by
  have hv := ht.1
  have hwv := zr_wv hw
  have hK := qm_k140 hv hwv hGF
  have JF := qm_Jk hv hwv KF hGF
  obtain ⟨_, c2, c3, c4, _⟩ := qj_cnt hv hwv JF
  have h16 := hw.1
  refine br_f hst (nm_e ?_)
  refine wx_heads hn0 hO hS.2.1 (fun i hi => ⟨hb i hi, fun hbi => by obtain ⟨a, b, _⟩ := hp.1 i hi hbi; omega⟩) (fun v18 hh => ?_)
  refine ⟨KF + 2, ?_⟩
  refine wx_50 (KF := KF) (pn := f_parseNumber + 1) ht hw hw0 hG0 hn hn0 hS hh hp hGF hH ?_ KF 0 (by omega) (Nat.zero_le _) 0 (Nat.le_refl _) _ (by omega) (248 - n0) 0 (fun _ => 0) (fun _ => 0) (fun _ => 0) _ _ _ _ _ _ _ _ _ _ _ _ _ _ _ ⟨hO, ?_, ?_, ?_, ?_⟩ ⟨?_, ?_, ?_, ?_, ?_, ?_⟩
  · intro fc kp ow src rs v1 v2 v3 v4 v5 v6 v7 v8 v9 v10 v11 v12 v13 v14 v15 hQ hD
    obtain ⟨q1, q2, q3, q4, q5⟩ := hQ
    obtain ⟨d1, d2, d3, d4, d5, d6⟩ := hD
    have hkp := zc_le src (qc_n (qm_run tb W KF))
    refine ⟨n0 + 1, ?_⟩
    refine wx_ad2 (n := qc_n (qm_run tb W KF)) (o := o) (ow := ow) (src := src) (rs := rs) c4 hn0 hS.1 (fun i hi => ⟨hS.2.1 i hi, (q1 i hi).1⟩) (fun i hi => (q5 i hi).1) (fun i x hi hr hx => zx_old ⟨q1, q2, q3, q4, q5⟩ hS.1 hi hr hx) (fun x hx hs => ((q3 x hx).2.2.1 hs).2.1) (fun x hx hs => ⟨((q3 x hx).2.2.2 hs).1, ((q3 x hx).2.2.2 hs).2.1⟩) (fun fs' w11 v16 v17 g1 g2 g3 => ?_) n0 0 (by omega) _ (by omega) fc fs v11 a_freeSlots ⟨?_, ?_⟩ ?_ ?_ ?_ ?_
    · rw [d4]
      refine h ow src fs' v1 v2 v3 v4 v5 v6 v7 v8 v9 v10 w11 v12 v13 v14 v15 v16 v17 v18 q2 (fun x hx => ⟨(q3 x hx).2.1, g2 x hx⟩) ⟨q4, fun x hx => ?_, fun j hj => ?_, g1.2⟩ d6 (fun x hx hs => ((q3 x hx).2.2.1 hs).2.2) (fun x hx hs => ?_)
      · rw [g3 x hx]; exact (q3 x hx).1
      · obtain ⟨a1, a2, a3, _⟩ := g1.1 j hj
        exact ⟨a1, a2, a3⟩
      · obtain ⟨a1, a2, a3, a4⟩ := (q3 x hx).2.2.2 hs
        exact ⟨a1, a4, fun i hi hm => zm_uniq hv hw0 hG0 hn hp hi a1 hm a4⟩
    · intro j hj
      obtain ⟨a1, a2, a3⟩ := hS.2.2.1 j (by omega)
      exact ⟨a1, a2, d1 j hj, fun i' _ hi' => a3 i' hi'⟩
    · intro x y hx hy hxy
      exact hS.2.2.2 x y (by omega) (by omega) hxy
    · show fc + (n0 - 0) + qc_n (qm_run tb W KF) + 0 = 248 + zc_n rs n0; omega
    · intro j hj _; exact (q5 j hj).2.1
    · intro j hj; exact absurd hj (Nat.not_lt_zero _)
    · intro x hx hs; exact ((q3 x hx).2.2.1 hs).1
  · intro i hi; exact absurd hi (Nat.not_lt_zero _)
  · intro i hi; exact absurd hi (Nat.not_lt_zero _)
  · intro i j hi; exact absurd hi (Nat.not_lt_zero _)
  · intro i hi; exact ⟨Nat.zero_le _, (hO2 i hi).2, fun _ => (hO2 i hi).1, fun hz => by have hz' : (0 : Nat) = 1 := hz; omega⟩
  · intro j _ x hx; exact absurd hx (Nat.not_lt_zero _)
  · show 248 - n0 + n0 + 0 = 248 + 0; omega
  · exact (zc_0 n0).symm
  · rfl
  · intro i hi; exact absurd hi (Nat.not_lt_zero _)
  · intro i hi; exact absurd hi (Nat.not_lt_zero _)
end
end
section
/-- what holds between edits: the last parse is still what the tokens say -/
def zi_N (tb : qm_T) (W0 W : qm_W) (K0 n0 : Nat) (o FF LL bk : Nat → Nat) (f_depth f_pos f_lastVerdict f_keptCount g_entries g_pos g_result g_keptNodes : Int32) (a_entryNode a_entryFirst a_entryState b_nodeChild b_entryRef b_entryState : Nat → Int32) : Prop := W0 = W ∧ (∀ i, i < n0 → bk i = 0 ∧ FF i = qc_F (qm_run tb W0 K0) i ∧ LL i = qc_L (qm_run tb W0 K0) i) ∧ f_depth = nI (qc_d (qm_run tb W0 K0)) ∧ f_pos = nI (qc_p (qm_run tb W0 K0)) ∧ g_entries = nI (qc_d (qm_run tb W0 K0)) ∧ g_pos = nI (qc_p (qm_run tb W0 K0)) ∧ g_result = f_lastVerdict ∧ g_keptNodes = f_keptCount ∧ zx_e (qm_run tb W0 K0) o a_entryNode a_entryFirst a_entryState ∧ (∀ e, e < qc_d (qm_run tb W0 K0) → b_entryRef e = nI (qc_er (qm_run tb W0 K0) e) ∧ b_entryState e = nI (qc_es (qm_run tb W0 K0) e)) ∧ (∀ x, x < n0 → ∀ j, j < qt_ln tb (qc_R (qm_run tb W0 K0) x) → b_nodeChild (x * 4 + j) = nI (qc_C (qm_run tb W0 K0) x j))
def zi_G (tb : qm_T) (W0 W : qm_W) (K0 n0 ml : Nat) (o fs FF LL bk : Nat → Nat) (bn : Nat → Int32) (f_depth f_pos f_stale f_lastVerdict f_keptCount : Int32) (a_ruleLhs a_ruleLen a_ruleRhs a_cells a_tokens a_nodeRule a_nodeFirst a_nodeLast a_nodeBorn a_nodeState a_nodeLook a_nodeSize a_nodeBroken a_kids a_numberOf a_nodeReused a_freeSlots a_order a_entryNode a_entryFirst a_entryState : Nat → Int32) (g_entries g_pos g_result g_keptNodes : Int32) (b_nodeRule b_nodeFirst b_nodeLast b_nodeBorn b_nodeState b_nodeLook b_nodeChild b_entryRef b_entryState : Nat → Int32) : Prop := zr_t a_ruleLhs a_ruleLen a_ruleRhs a_cells tb ∧ zr_w a_tokens W ∧ qm_wv W0 ∧ qm_goes tb W0 K0 ∧ n0 = qc_n (qm_run tb W0 K0) ∧ (W.2 ≤ ml ∧ ml ≤ 16) ∧ zx_S n0 o fs a_freeSlots a_order ∧ zr_p W0 W (qm_run tb W0 K0) n0 FF LL bk ∧ (∀ i, i < n0 → bk i ≤ 1) ∧ zr_o tb (qm_run tb W0 K0) n0 o FF LL bk bn a_nodeRule a_nodeFirst a_nodeLast a_nodeBorn a_nodeState a_nodeLook a_nodeSize a_nodeBroken a_kids ∧ (∀ i, i < n0 → a_numberOf (o i) = nI i ∧ a_nodeReused (o i) = 0) ∧ zr_y (qm_run tb W0 K0) n0 FF LL bk bn b_nodeRule b_nodeFirst b_nodeLast b_nodeBorn b_nodeState b_nodeLook ∧ (f_stale = 0 ∨ f_stale = 1) ∧ (f_stale = 0 → zi_N tb W0 W K0 n0 o FF LL bk f_depth f_pos f_lastVerdict f_keptCount g_entries g_pos g_result g_keptNodes a_entryNode a_entryFirst a_entryState b_nodeChild b_entryRef b_entryState)
def i_Rel (_ : Nat) (u : SX) (v : SY) : Prop := match u, v with
  | (f_tokenTotal, f_tokenLimit, f_freeCount, f_storedCount, f_newCount, f_depth, f_pos, f_stale, f_lastVerdict, f_keptCount, f_parseNumber, a_ruleLhs, a_ruleLen, a_ruleRhs, a_cells, a_tokens, a_nodeRule, a_nodeFirst, a_nodeLast, a_nodeBorn, a_nodeState, a_nodeLook, a_nodeSize, a_numberOf, a_nodeBroken, a_nodeReused, a_kids, a_freeSlots, a_order, a_newOrder, a_headAt, a_entryNode, a_entryFirst, a_entryState), (g_greatest, g_count, g_nodes, g_olds, g_entries, g_pos, g_result, g_keptNodes, g_parseNumber, g_stale, b_ruleLhs, b_ruleLen, b_ruleRhs, b_cells, b_token, b_nodeRule, b_nodeFirst, b_nodeLast, b_nodeBorn, b_nodeState, b_nodeLook, b_nodeChild, b_oldRule, b_oldFirst, b_oldLast, b_oldBorn, b_oldState, b_oldLook, b_entryRef, b_entryState) => ∃ (tb : qm_T) (W0 W : qm_W) (K0 n0 ml : Nat) (o fs FF LL bk : Nat → Nat) (bn : Nat → Int32), zi_G tb W0 W K0 n0 ml o fs FF LL bk bn f_depth f_pos f_stale f_lastVerdict f_keptCount a_ruleLhs a_ruleLen a_ruleRhs a_cells a_tokens a_nodeRule a_nodeFirst a_nodeLast a_nodeBorn a_nodeState a_nodeLook a_nodeSize a_nodeBroken a_kids a_numberOf a_nodeReused a_freeSlots a_order a_entryNode a_entryFirst a_entryState g_entries g_pos g_result g_keptNodes b_nodeRule b_nodeFirst b_nodeLast b_nodeBorn b_nodeState b_nodeLook b_nodeChild b_entryRef b_entryState ∧ f_tokenTotal = nI W.2 ∧ f_tokenLimit = nI ml ∧ f_freeCount = nI (248 - n0) ∧ f_storedCount = nI n0 ∧ g_greatest = nI ml ∧ g_count = nI W.2 ∧ g_nodes = nI n0 ∧ g_parseNumber = f_parseNumber ∧ g_stale = f_stale ∧ b_ruleLhs = a_ruleLhs ∧ b_ruleLen = a_ruleLen ∧ b_ruleRhs = a_ruleRhs ∧ b_cells = a_cells ∧ b_token = a_tokens
theorem i_up {k : Nat} {u : SX} {v : SY} (h : i_Rel k u v) : i_Rel (k + 5) u v := h
theorem zz_mk {k : Nat} {tb : qm_T} {W0 W : qm_W} {K0 n0 ml : Nat} {o fs FF LL bk : Nat → Nat} {bn : Nat → Int32} {f_newCount f_depth f_pos f_stale f_lastVerdict f_keptCount f_parseNumber g_olds g_entries g_pos g_result g_keptNodes : Int32} {a_ruleLhs a_ruleLen a_ruleRhs a_cells a_tokens a_nodeRule a_nodeFirst a_nodeLast a_nodeBorn a_nodeState a_nodeLook a_nodeSize a_numberOf a_nodeBroken a_nodeReused a_kids a_freeSlots a_order a_newOrder a_headAt a_entryNode a_entryFirst a_entryState b_nodeRule b_nodeFirst b_nodeLast b_nodeBorn b_nodeState b_nodeLook b_nodeChild b_oldRule b_oldFirst b_oldLast b_oldBorn b_oldState b_oldLook b_entryRef b_entryState : Nat → Int32} (h : zi_G tb W0 W K0 n0 ml o fs FF LL bk bn f_depth f_pos f_stale f_lastVerdict f_keptCount a_ruleLhs a_ruleLen a_ruleRhs a_cells a_tokens a_nodeRule a_nodeFirst a_nodeLast a_nodeBorn a_nodeState a_nodeLook a_nodeSize a_nodeBroken a_kids a_numberOf a_nodeReused a_freeSlots a_order a_entryNode a_entryFirst a_entryState g_entries g_pos g_result g_keptNodes b_nodeRule b_nodeFirst b_nodeLast b_nodeBorn b_nodeState b_nodeLook b_nodeChild b_entryRef b_entryState) : i_Rel k (nI W.2, nI ml, nI (248 - n0), nI n0, f_newCount, f_depth, f_pos, f_stale, f_lastVerdict, f_keptCount, f_parseNumber, a_ruleLhs, a_ruleLen, a_ruleRhs, a_cells, a_tokens, a_nodeRule, a_nodeFirst, a_nodeLast, a_nodeBorn, a_nodeState, a_nodeLook, a_nodeSize, a_numberOf, a_nodeBroken, a_nodeReused, a_kids, a_freeSlots, a_order, a_newOrder, a_headAt, a_entryNode, a_entryFirst, a_entryState) (nI ml, nI W.2, nI n0, g_olds, g_entries, g_pos, g_result, g_keptNodes, f_parseNumber, f_stale, a_ruleLhs, a_ruleLen, a_ruleRhs, a_cells, a_tokens, b_nodeRule, b_nodeFirst, b_nodeLast, b_nodeBorn, b_nodeState, b_nodeLook, b_nodeChild, b_oldRule, b_oldFirst, b_oldLast, b_oldBorn, b_oldState, b_oldLook, b_entryRef, b_entryState) :=
  ⟨tb, W0, W, K0, n0, ml, o, fs, FF, LL, bk, bn, h, rfl, rfl, rfl, rfl, rfl, rfl, rfl, rfl, rfl, rfl, rfl, rfl, rfl, rfl⟩
theorem zz_el {P : SX → SY → Prop} {k : Nat} {u : SX} {v : SY} (h : ∀ (f_newCount f_depth f_pos f_stale f_lastVerdict f_keptCount f_parseNumber : Int32) (a_ruleLhs a_ruleLen a_ruleRhs a_cells a_tokens a_nodeRule a_nodeFirst a_nodeLast a_nodeBorn a_nodeState a_nodeLook a_nodeSize a_numberOf a_nodeBroken a_nodeReused a_kids a_freeSlots a_order a_newOrder a_headAt a_entryNode a_entryFirst a_entryState : Nat → Int32) (g_olds g_entries g_pos g_result g_keptNodes : Int32) (b_nodeRule b_nodeFirst b_nodeLast b_nodeBorn b_nodeState b_nodeLook b_nodeChild b_oldRule b_oldFirst b_oldLast b_oldBorn b_oldState b_oldLook b_entryRef b_entryState : Nat → Int32) (tb : qm_T) (W0 W : qm_W) (K0 n0 ml : Nat) (o fs FF LL bk : Nat → Nat) (bn : Nat → Int32), zi_G tb W0 W K0 n0 ml o fs FF LL bk bn f_depth f_pos f_stale f_lastVerdict f_keptCount a_ruleLhs a_ruleLen a_ruleRhs a_cells a_tokens a_nodeRule a_nodeFirst a_nodeLast a_nodeBorn a_nodeState a_nodeLook a_nodeSize a_nodeBroken a_kids a_numberOf a_nodeReused a_freeSlots a_order a_entryNode a_entryFirst a_entryState g_entries g_pos g_result g_keptNodes b_nodeRule b_nodeFirst b_nodeLast b_nodeBorn b_nodeState b_nodeLook b_nodeChild b_entryRef b_entryState → P (nI W.2, nI ml, nI (248 - n0), nI n0, f_newCount, f_depth, f_pos, f_stale, f_lastVerdict, f_keptCount, f_parseNumber, a_ruleLhs, a_ruleLen, a_ruleRhs, a_cells, a_tokens, a_nodeRule, a_nodeFirst, a_nodeLast, a_nodeBorn, a_nodeState, a_nodeLook, a_nodeSize, a_numberOf, a_nodeBroken, a_nodeReused, a_kids, a_freeSlots, a_order, a_newOrder, a_headAt, a_entryNode, a_entryFirst, a_entryState) (nI ml, nI W.2, nI n0, g_olds, g_entries, g_pos, g_result, g_keptNodes, f_parseNumber, f_stale, a_ruleLhs, a_ruleLen, a_ruleRhs, a_cells, a_tokens, b_nodeRule, b_nodeFirst, b_nodeLast, b_nodeBorn, b_nodeState, b_nodeLook, b_nodeChild, b_oldRule, b_oldFirst, b_oldLast, b_oldBorn, b_oldState, b_oldLook, b_entryRef, b_entryState)) (I : i_Rel k u v) : P u v := by
  match u, v, I with
  | (f_tokenTotal, f_tokenLimit, f_freeCount, f_storedCount, f_newCount, f_depth, f_pos, f_stale, f_lastVerdict, f_keptCount, f_parseNumber, a_ruleLhs, a_ruleLen, a_ruleRhs, a_cells, a_tokens, a_nodeRule, a_nodeFirst, a_nodeLast, a_nodeBorn, a_nodeState, a_nodeLook, a_nodeSize, a_numberOf, a_nodeBroken, a_nodeReused, a_kids, a_freeSlots, a_order, a_newOrder, a_headAt, a_entryNode, a_entryFirst, a_entryState), (g_greatest, g_count, g_nodes, g_olds, g_entries, g_pos, g_result, g_keptNodes, g_parseNumber, g_stale, b_ruleLhs, b_ruleLen, b_ruleRhs, b_cells, b_token, b_nodeRule, b_nodeFirst, b_nodeLast, b_nodeBorn, b_nodeState, b_nodeLook, b_nodeChild, b_oldRule, b_oldFirst, b_oldLast, b_oldBorn, b_oldState, b_oldLook, b_entryRef, b_entryState), I =>
    obtain ⟨tb, W0, W, K0, n0, ml, o, fs, FF, LL, bk, bn, hG, e1, e2, e3, e4, e5, e6, e7, e8, e9, e10, e11, e12, e13, e14⟩ := I
    rw [e1, e2, e3, e4, e5, e6, e7, e8, e9, e10, e11, e12, e13, e14]
    exact h f_newCount f_depth f_pos f_stale f_lastVerdict f_keptCount f_parseNumber a_ruleLhs a_ruleLen a_ruleRhs a_cells a_tokens a_nodeRule a_nodeFirst a_nodeLast a_nodeBorn a_nodeState a_nodeLook a_nodeSize a_numberOf a_nodeBroken a_nodeReused a_kids a_freeSlots a_order a_newOrder a_headAt a_entryNode a_entryFirst a_entryState g_olds g_entries g_pos g_result g_keptNodes b_nodeRule b_nodeFirst b_nodeLast b_nodeBorn b_nodeState b_nodeLook b_nodeChild b_oldRule b_oldFirst b_oldLast b_oldBorn b_oldState b_oldLook b_entryRef b_entryState tb W0 W K0 n0 ml o fs FF LL bk bn hG
end
section
theorem zr_self {tb : qm_T} {W : qm_W} {c : qm_C} (J : qm_J tb W c) : zr_p W W c (qc_n c) (qc_F c) (qc_L c) (fun _ => 0) := by
  refine ⟨?_, fun i j _ _ _ _ h => h⟩
  intro i hi _
  obtain ⟨n1, n2, n3, n4, n5, n6, n7, n8⟩ := (J.2.1 i hi).1
  have hp := J.1.1
  refine ⟨n3, by omega, by omega, ?_, fun j _ _ => ⟨rfl, by omega⟩⟩
  intro q q' _ _ h3
  rw [show q' = q by omega]
theorem zr_small {tb : qm_T} {W0 W : qm_W} {c0 c : qm_C} {n0 : Nat} {FF LL bk : Nat → Nat} (hw0 : qm_wv W0) (hw : qm_wv W) (J0 : qm_J tb W0 c0) (J : qm_J tb W c) (hn : n0 = qc_n c0) (hp : zr_p W0 W c0 n0 FF LL bk) : zr_sm c0 c n0 FF LL bk := by
  refine ⟨?_, ?_⟩
  · intro i hi
    obtain ⟨n1, n2, n3, n4, n5, n6, n7, n8⟩ := (J0.2.1 i (by omega)).1
    have h7 := (qm_sym_le hw0 (qc_L c0 i + 1)).1
    have h16 := hw.1
    refine ⟨n1, n7, by omega, fun hb => ?_⟩
    obtain ⟨a1, a2, _⟩ := hp.1 i hi hb
    exact ⟨by omega, by omega⟩
  · intro x hx
    obtain ⟨n1, n2, n3, n4, n5, n6, n7, n8⟩ := (J.2.1 x hx).1
    have h7 := (qm_sym_le hw (qc_L c x + 1)).1
    have h16 := hw.1
    have hp := J.1.1
    exact ⟨n1, n7, by omega, by omega, by omega⟩
theorem i_vc_reparse {k : Nat} {u : SX} {v : SY} (I : i_Rel k u v) (hk : k + 5 ≤ 2562) : wpX_reparse (fun r u' => wpY_reparse (fun r' v' => r' = r ∧ i_Rel (k + 5) u' v') v) u := by
  refine zz_el (P := fun u v => wpX_reparse (fun r u' => wpY_reparse (fun r' v' => r' = r ∧ i_Rel (k + 5) u' v') v) u) ?_ I
  intro f_newCount f_depth f_pos f_stale f_lastVerdict f_keptCount f_parseNumber a_ruleLhs a_ruleLen a_ruleRhs a_cells a_tokens a_nodeRule a_nodeFirst a_nodeLast a_nodeBorn a_nodeState a_nodeLook a_nodeSize a_numberOf a_nodeBroken a_nodeReused a_kids a_freeSlots a_order a_newOrder a_headAt a_entryNode a_entryFirst a_entryState g_olds g_entries g_pos g_result g_keptNodes b_nodeRule b_nodeFirst b_nodeLast b_nodeBorn b_nodeState b_nodeLook b_nodeChild b_oldRule b_oldFirst b_oldLast b_oldBorn b_oldState b_oldLook b_entryRef b_entryState tb W0 W K0 n0 ml o fs FF LL bk bn hG
  have hG' := hG
  obtain ⟨ht, hw, hw0, hG0, hn, hml, hS, hp, hb, hO, hO2, hY, hst, hN⟩ := hG
  by_cases hs : f_stale = 0
  · exact br_t hs (br_t hs ⟨(hN hs).2.2.2.2.2.2.1, zz_mk hG'⟩)
  · obtain ⟨KF, hK1, hGF, hH⟩ := qm_halt ht.1 (zr_wv hw)
    have J0 := qm_Jk ht.1 hw0 K0 hG0
    have JF := qm_Jk ht.1 (zr_wv hw) KF hGF
    have hn0 : n0 ≤ 124 := by rw [hn]; exact (qj_cnt ht.1 hw0 J0).2.2.2.1
    refine wx_reparse ht hw hw0 hG0 hn hn0 hS hp hb hO hO2 hs hGF hH (fun ow src fs' v1 v2 v3 v4 v5 v6 v7 v8 v9 v10 v11 v12 v13 v14 v15 v16 v17 v18 g1 g2 g3 g4 g5 g6 => ?_)
    refine wy_reparse (c0 := qm_run tb W0 K0) (src := src) ht hw rfl hs hn0 rfl hY hGF hH (zr_small hw0 (zr_wv hw) J0 JF hn hp) g5 g6 (fun aR aF aL aB aS aK aC aE aT oR oF oL oB oS oK hP hB => ?_)
    refine ⟨rfl, ?_⟩
    refine zz_mk (tb := tb) (W0 := W) (W := W) (K0 := KF) (n0 := qc_n (qm_run tb W KF)) (ml := ml) (o := ow) (fs := fs') (FF := qc_F (qm_run tb W KF)) (LL := qc_L (qm_run tb W KF)) (bk := fun _ => 0) (bn := zr_bs src bn (f_parseNumber + 1)) ?_
    refine ⟨ht, hw, zr_wv hw, hGF, rfl, hml, g3, zr_self JF, fun _ _ => Nat.zero_le _, g1, g2, ?_, Or.inl rfl, fun _ => ⟨rfl, fun i hi => ⟨rfl, rfl, rfl⟩, rfl, rfl, rfl, rfl, rfl, rfl, g4, hP.2, fun x hx => (hP.1 x hx).2.2.2.2.2⟩⟩
    intro i hi
    obtain ⟨a1, a2, a3, a4, a5, _⟩ := hP.1 i hi
    exact ⟨a1, hB i hi, a4, a5, fun _ => ⟨a2, a3⟩, fun h => absurd rfl h⟩
theorem i_vc_verdict {k : Nat} {u : SX} {v : SY} (I : i_Rel k u v) (hk : k + 5 ≤ 2562) : wpX_verdict (fun r => wpY_verdict (fun r' => r' = r ∧ i_Rel (k + 5) u v) v) u := by
  refine zz_el (P := fun u v => wpX_verdict (fun r => wpY_verdict (fun r' => r' = r ∧ i_Rel (k + 5) u v) v) u) ?_ I
  intro f_newCount f_depth f_pos f_stale f_lastVerdict f_keptCount f_parseNumber a_ruleLhs a_ruleLen a_ruleRhs a_cells a_tokens a_nodeRule a_nodeFirst a_nodeLast a_nodeBorn a_nodeState a_nodeLook a_nodeSize a_numberOf a_nodeBroken a_nodeReused a_kids a_freeSlots a_order a_newOrder a_headAt a_entryNode a_entryFirst a_entryState g_olds g_entries g_pos g_result g_keptNodes b_nodeRule b_nodeFirst b_nodeLast b_nodeBorn b_nodeState b_nodeLook b_nodeChild b_oldRule b_oldFirst b_oldLast b_oldBorn b_oldState b_oldLook b_entryRef b_entryState tb W0 W K0 n0 ml o fs FF LL bk bn hG
  have hG' := hG
  obtain ⟨ht, hw, hw0, hG0, hn, hml, hS, hp, hb, hO, hO2, hY, hst, hN⟩ := hG
  by_cases hs : f_stale = 0
  · exact br_t hs (br_t hs ⟨(hN hs).2.2.2.2.2.2.1, zz_mk hG'⟩)
  · exact br_f hs (br_f hs ⟨rfl, zz_mk hG'⟩)
theorem i_vc_haltAt {k : Nat} {u : SX} {v : SY} (I : i_Rel k u v) (hk : k + 5 ≤ 2562) : wpX_haltAt (fun r => wpY_haltAt (fun r' => r' = r ∧ i_Rel (k + 5) u v) v) u := by
  refine zz_el (P := fun u v => wpX_haltAt (fun r => wpY_haltAt (fun r' => r' = r ∧ i_Rel (k + 5) u v) v) u) ?_ I
  intro f_newCount f_depth f_pos f_stale f_lastVerdict f_keptCount f_parseNumber a_ruleLhs a_ruleLen a_ruleRhs a_cells a_tokens a_nodeRule a_nodeFirst a_nodeLast a_nodeBorn a_nodeState a_nodeLook a_nodeSize a_numberOf a_nodeBroken a_nodeReused a_kids a_freeSlots a_order a_newOrder a_headAt a_entryNode a_entryFirst a_entryState g_olds g_entries g_pos g_result g_keptNodes b_nodeRule b_nodeFirst b_nodeLast b_nodeBorn b_nodeState b_nodeLook b_nodeChild b_oldRule b_oldFirst b_oldLast b_oldBorn b_oldState b_oldLook b_entryRef b_entryState tb W0 W K0 n0 ml o fs FF LL bk bn hG
  have hG' := hG
  obtain ⟨ht, hw, hw0, hG0, hn, hml, hS, hp, hb, hO, hO2, hY, hst, hN⟩ := hG
  by_cases hs : f_stale = 0
  · refine br_t hs (br_t hs ⟨?_, zz_mk hG'⟩)
    have h := hN hs
    rw [h.2.2.2.1, h.2.2.2.2.2.1]
  · exact br_f hs (br_f hs ⟨rfl, zz_mk hG'⟩)
theorem i_vc_haltState {k : Nat} {u : SX} {v : SY} (I : i_Rel k u v) (hk : k + 5 ≤ 2562) : wpX_haltState (fun r => wpY_haltState (fun r' => r' = r ∧ i_Rel (k + 5) u v) v) u := by
  refine zz_el (P := fun u v => wpX_haltState (fun r => wpY_haltState (fun r' => r' = r ∧ i_Rel (k + 5) u v) v) u) ?_ I
  intro f_newCount f_depth f_pos f_stale f_lastVerdict f_keptCount f_parseNumber a_ruleLhs a_ruleLen a_ruleRhs a_cells a_tokens a_nodeRule a_nodeFirst a_nodeLast a_nodeBorn a_nodeState a_nodeLook a_nodeSize a_numberOf a_nodeBroken a_nodeReused a_kids a_freeSlots a_order a_newOrder a_headAt a_entryNode a_entryFirst a_entryState g_olds g_entries g_pos g_result g_keptNodes b_nodeRule b_nodeFirst b_nodeLast b_nodeBorn b_nodeState b_nodeLook b_nodeChild b_oldRule b_oldFirst b_oldLast b_oldBorn b_oldState b_oldLook b_entryRef b_entryState tb W0 W K0 n0 ml o fs FF LL bk bn hG
  have hG' := hG
  obtain ⟨ht, hw, hw0, hG0, hn, hml, hS, hp, hb, hO, hO2, hY, hst, hN⟩ := hG
  by_cases hs : f_stale = 0
  · have h := hN hs
    have J0 := qm_Jk ht.1 hw0 K0 hG0
    obtain ⟨_, c2, c3, c4, _⟩ := qj_cnt ht.1 hw0 J0
    obtain ⟨h1, h2, h3, h4, h5, h6, h7, h8, h9, h10, h11⟩ := h
    subst h3 h5
    refine br_t hs ?_
    refine wx_top (by omega) h9 ?_
    refine br_t hs ?_
    refine wy_top (c := qm_run tb W0 K0) (by omega) (fun e he => (h10 e he).2) ?_
    exact ⟨rfl, zz_mk hG'⟩
  · exact br_f hs (br_f hs ⟨rfl, zz_mk hG'⟩)
theorem i_vc_parses {k : Nat} {u : SX} {v : SY} (I : i_Rel k u v) (hk : k + 5 ≤ 2562) : wpX_parses (fun r => wpY_parses (fun r' => r' = r ∧ i_Rel (k + 5) u v) v) u := by
  refine zz_el (P := fun u v => wpX_parses (fun r => wpY_parses (fun r' => r' = r ∧ i_Rel (k + 5) u v) v) u) ?_ I
  intro f_newCount f_depth f_pos f_stale f_lastVerdict f_keptCount f_parseNumber a_ruleLhs a_ruleLen a_ruleRhs a_cells a_tokens a_nodeRule a_nodeFirst a_nodeLast a_nodeBorn a_nodeState a_nodeLook a_nodeSize a_numberOf a_nodeBroken a_nodeReused a_kids a_freeSlots a_order a_newOrder a_headAt a_entryNode a_entryFirst a_entryState g_olds g_entries g_pos g_result g_keptNodes b_nodeRule b_nodeFirst b_nodeLast b_nodeBorn b_nodeState b_nodeLook b_nodeChild b_oldRule b_oldFirst b_oldLast b_oldBorn b_oldState b_oldLook b_entryRef b_entryState tb W0 W K0 n0 ml o fs FF LL bk bn hG
  exact And.intro rfl (zz_mk hG)
theorem i_vc_kept {k : Nat} {u : SX} {v : SY} (I : i_Rel k u v) (hk : k + 5 ≤ 2562) : wpX_kept (fun r => wpY_kept (fun r' => r' = r ∧ i_Rel (k + 5) u v) v) u := by
  refine zz_el (P := fun u v => wpX_kept (fun r => wpY_kept (fun r' => r' = r ∧ i_Rel (k + 5) u v) v) u) ?_ I
  intro f_newCount f_depth f_pos f_stale f_lastVerdict f_keptCount f_parseNumber a_ruleLhs a_ruleLen a_ruleRhs a_cells a_tokens a_nodeRule a_nodeFirst a_nodeLast a_nodeBorn a_nodeState a_nodeLook a_nodeSize a_numberOf a_nodeBroken a_nodeReused a_kids a_freeSlots a_order a_newOrder a_headAt a_entryNode a_entryFirst a_entryState g_olds g_entries g_pos g_result g_keptNodes b_nodeRule b_nodeFirst b_nodeLast b_nodeBorn b_nodeState b_nodeLook b_nodeChild b_oldRule b_oldFirst b_oldLast b_oldBorn b_oldState b_oldLook b_entryRef b_entryState tb W0 W K0 n0 ml o fs FF LL bk bn hG
  have hG' := hG
  obtain ⟨ht, hw, hw0, hG0, hn, hml, hS, hp, hb, hO, hO2, hY, hst, hN⟩ := hG
  by_cases hs : f_stale = 0
  · exact br_t hs (br_t hs ⟨(hN hs).2.2.2.2.2.2.2.1, zz_mk hG'⟩)
  · exact br_f hs (br_f hs ⟨rfl, zz_mk hG'⟩)
theorem i_vc_nodeCount {k : Nat} {u : SX} {v : SY} (I : i_Rel k u v) (hk : k + 5 ≤ 2562) : wpX_nodeCount (fun r => wpY_nodeCount (fun r' => r' = r ∧ i_Rel (k + 5) u v) v) u := by
  refine zz_el (P := fun u v => wpX_nodeCount (fun r => wpY_nodeCount (fun r' => r' = r ∧ i_Rel (k + 5) u v) v) u) ?_ I
  intro f_newCount f_depth f_pos f_stale f_lastVerdict f_keptCount f_parseNumber a_ruleLhs a_ruleLen a_ruleRhs a_cells a_tokens a_nodeRule a_nodeFirst a_nodeLast a_nodeBorn a_nodeState a_nodeLook a_nodeSize a_numberOf a_nodeBroken a_nodeReused a_kids a_freeSlots a_order a_newOrder a_headAt a_entryNode a_entryFirst a_entryState g_olds g_entries g_pos g_result g_keptNodes b_nodeRule b_nodeFirst b_nodeLast b_nodeBorn b_nodeState b_nodeLook b_nodeChild b_oldRule b_oldFirst b_oldLast b_oldBorn b_oldState b_oldLook b_entryRef b_entryState tb W0 W K0 n0 ml o fs FF LL bk bn hG
  exact And.intro rfl (zz_mk hG)
theorem i_vc_tokenCount {k : Nat} {u : SX} {v : SY} (I : i_Rel k u v) (hk : k + 5 ≤ 2562) : wpX_tokenCount (fun r => wpY_tokenCount (fun r' => r' = r ∧ i_Rel (k + 5) u v) v) u := by
  refine zz_el (P := fun u v => wpX_tokenCount (fun r => wpY_tokenCount (fun r' => r' = r ∧ i_Rel (k + 5) u v) v) u) ?_ I
  intro f_newCount f_depth f_pos f_stale f_lastVerdict f_keptCount f_parseNumber a_ruleLhs a_ruleLen a_ruleRhs a_cells a_tokens a_nodeRule a_nodeFirst a_nodeLast a_nodeBorn a_nodeState a_nodeLook a_nodeSize a_numberOf a_nodeBroken a_nodeReused a_kids a_freeSlots a_order a_newOrder a_headAt a_entryNode a_entryFirst a_entryState g_olds g_entries g_pos g_result g_keptNodes b_nodeRule b_nodeFirst b_nodeLast b_nodeBorn b_nodeState b_nodeLook b_nodeChild b_oldRule b_oldFirst b_oldLast b_oldBorn b_oldState b_oldLook b_entryRef b_entryState tb W0 W K0 n0 ml o fs FF LL bk bn hG
  exact And.intro rfl (zz_mk hG)
theorem i_vc_forestSize {k : Nat} {u : SX} {v : SY} (I : i_Rel k u v) (hk : k + 5 ≤ 2562) : wpX_forestSize (fun r => wpY_forestSize (fun r' => r' = r ∧ i_Rel (k + 5) u v) v) u := by
  refine zz_el (P := fun u v => wpX_forestSize (fun r => wpY_forestSize (fun r' => r' = r ∧ i_Rel (k + 5) u v) v) u) ?_ I
  intro f_newCount f_depth f_pos f_stale f_lastVerdict f_keptCount f_parseNumber a_ruleLhs a_ruleLen a_ruleRhs a_cells a_tokens a_nodeRule a_nodeFirst a_nodeLast a_nodeBorn a_nodeState a_nodeLook a_nodeSize a_numberOf a_nodeBroken a_nodeReused a_kids a_freeSlots a_order a_newOrder a_headAt a_entryNode a_entryFirst a_entryState g_olds g_entries g_pos g_result g_keptNodes b_nodeRule b_nodeFirst b_nodeLast b_nodeBorn b_nodeState b_nodeLook b_nodeChild b_oldRule b_oldFirst b_oldLast b_oldBorn b_oldState b_oldLook b_entryRef b_entryState tb W0 W K0 n0 ml o fs FF LL bk bn hG
  have hG' := hG
  obtain ⟨ht, hw, hw0, hG0, hn, hml, hS, hp, hb, hO, hO2, hY, hst, hN⟩ := hG
  by_cases hs : f_stale = 0
  · refine br_t hs (br_t hs ⟨?_, zz_mk hG'⟩)
    have h := hN hs
    rw [h.2.2.1, h.2.2.2.2.1]
  · exact br_f hs (br_f hs ⟨rfl, zz_mk hG'⟩)
end
section
theorem zz_lt {x : Int32} {n : Nat} (h0 : ¬ x < 0) (h : x < nI n) (hn : n < 2 ^ 31) : ∃ j, j < n ∧ x = nI j := by
  obtain ⟨j, hj, rfl⟩ := nI_of h0
  exact ⟨j, (nI_ltI hj hn).mp h, rfl⟩
theorem i_vc_tokenAt {k : Nat} {u : SX} {v : SY} (I : i_Rel k u v) (hk : k + 5 ≤ 2562) (v1 : Int32) : wpX_tokenAt (fun r => wpY_tokenAt (fun r' => r' = r ∧ i_Rel (k + 5) u v) v v1) u v1 := by
  refine zz_el (P := fun u v => wpX_tokenAt (fun r => wpY_tokenAt (fun r' => r' = r ∧ i_Rel (k + 5) u v) v v1) u v1) ?_ I
  intro f_newCount f_depth f_pos f_stale f_lastVerdict f_keptCount f_parseNumber a_ruleLhs a_ruleLen a_ruleRhs a_cells a_tokens a_nodeRule a_nodeFirst a_nodeLast a_nodeBorn a_nodeState a_nodeLook a_nodeSize a_numberOf a_nodeBroken a_nodeReused a_kids a_freeSlots a_order a_newOrder a_headAt a_entryNode a_entryFirst a_entryState g_olds g_entries g_pos g_result g_keptNodes b_nodeRule b_nodeFirst b_nodeLast b_nodeBorn b_nodeState b_nodeLook b_nodeChild b_oldRule b_oldFirst b_oldLast b_oldBorn b_oldState b_oldLook b_entryRef b_entryState tb W0 W K0 n0 ml o fs FF LL bk bn hG
  have hG' := hG
  obtain ⟨ht, hw, hw0, hG0, hn, hml, hS, hp, hb, hO, hO2, hY, hst, hN⟩ := hG
  by_cases h0 : v1 < 0
  · exact br_t h0 (br_t h0 ⟨rfl, zz_mk hG'⟩)
  · by_cases h1 : v1 < nI W.2
    · obtain ⟨j, j1, rfl⟩ := zz_lt h0 h1 (by omega)
      have vi : vp_in (nI j) 16 := pk_in j 16 (by omega)
      exact br_f h0 (br_t h1 ⟨vi, br_f h0 (br_t h1 ⟨vi, rfl, zz_mk hG'⟩)⟩)
    · exact br_f h0 (br_f h1 (br_f h0 (br_f h1 ⟨rfl, zz_mk hG'⟩)))
theorem i_vc_ruleAt {k : Nat} {u : SX} {v : SY} (I : i_Rel k u v) (hk : k + 5 ≤ 2562) (v1 : Int32) : wpX_ruleAt (fun r => wpY_ruleAt (fun r' => r' = r ∧ i_Rel (k + 5) u v) v v1) u v1 := by
  refine zz_el (P := fun u v => wpX_ruleAt (fun r => wpY_ruleAt (fun r' => r' = r ∧ i_Rel (k + 5) u v) v v1) u v1) ?_ I
  intro f_newCount f_depth f_pos f_stale f_lastVerdict f_keptCount f_parseNumber a_ruleLhs a_ruleLen a_ruleRhs a_cells a_tokens a_nodeRule a_nodeFirst a_nodeLast a_nodeBorn a_nodeState a_nodeLook a_nodeSize a_numberOf a_nodeBroken a_nodeReused a_kids a_freeSlots a_order a_newOrder a_headAt a_entryNode a_entryFirst a_entryState g_olds g_entries g_pos g_result g_keptNodes b_nodeRule b_nodeFirst b_nodeLast b_nodeBorn b_nodeState b_nodeLook b_nodeChild b_oldRule b_oldFirst b_oldLast b_oldBorn b_oldState b_oldLook b_entryRef b_entryState tb W0 W K0 n0 ml o fs FF LL bk bn hG
  by_cases h0 : v1 < 0
  · exact br_t h0 (br_t h0 ⟨rfl, zz_mk hG⟩)
  · by_cases h1 : v1 ≤ 11
    · obtain ⟨j, j1, rfl⟩ := nI_of2 (n := 11) (by decide) h0 h1
      have vi : vp_in (nI j) 12 := pk_in j 12 (by omega)
      by_cases hz : a_ruleLen (nI j).toNatClampNeg = 0
      · exact br_f h0 (br_t h1 ⟨vi, br_t hz (br_f h0 (br_t h1 ⟨vi, br_t hz ⟨rfl, zz_mk hG⟩⟩))⟩)
      · exact br_f h0 (br_t h1 ⟨vi, br_f hz ⟨vi, vi, vi, br_f h0 (br_t h1 ⟨vi, br_f hz ⟨vi, vi, vi, rfl, zz_mk hG⟩⟩)⟩⟩)
    · exact br_f h0 (br_f h1 (br_f h0 (br_f h1 ⟨rfl, zz_mk hG⟩)))
theorem i_vc_cellAt {k : Nat} {u : SX} {v : SY} (I : i_Rel k u v) (hk : k + 5 ≤ 2562) (v1 : Int32) (v2 : Int32) : wpX_cellAt (fun r => wpY_cellAt (fun r' => r' = r ∧ i_Rel (k + 5) u v) v v1 v2) u v1 v2 := by
  refine zz_el (P := fun u v => wpX_cellAt (fun r => wpY_cellAt (fun r' => r' = r ∧ i_Rel (k + 5) u v) v v1 v2) u v1 v2) ?_ I
  intro f_newCount f_depth f_pos f_stale f_lastVerdict f_keptCount f_parseNumber a_ruleLhs a_ruleLen a_ruleRhs a_cells a_tokens a_nodeRule a_nodeFirst a_nodeLast a_nodeBorn a_nodeState a_nodeLook a_nodeSize a_numberOf a_nodeBroken a_nodeReused a_kids a_freeSlots a_order a_newOrder a_headAt a_entryNode a_entryFirst a_entryState g_olds g_entries g_pos g_result g_keptNodes b_nodeRule b_nodeFirst b_nodeLast b_nodeBorn b_nodeState b_nodeLook b_nodeChild b_oldRule b_oldFirst b_oldLast b_oldBorn b_oldState b_oldLook b_entryRef b_entryState tb W0 W K0 n0 ml o fs FF LL bk bn hG
  by_cases h0 : v1 < 0
  · exact br_t h0 (br_t h0 ⟨rfl, zz_mk hG⟩)
  · by_cases h1 : 15 < v1
    · exact br_f h0 (br_t h1 (br_f h0 (br_t h1 ⟨rfl, zz_mk hG⟩)))
    · by_cases h2 : v2 < 0
      · exact br_f h0 (br_f h1 (br_t h2 (br_f h0 (br_f h1 (br_t h2 ⟨rfl, zz_mk hG⟩)))))
      · by_cases h3 : v2 ≤ 11
        · obtain ⟨j, j1, rfl⟩ := nI_of2 (n := 15) (by decide) h0 (Int32.not_lt.mp h1)
          obtain ⟨i, i1, rfl⟩ := nI_of2 (n := 11) (by decide) h2 h3
          have vi : vp_in (nI j * 12 + nI i) 192 := pk_in (j * 12 + i) 192 (by omega) (zz_m12 j i)
          exact br_f h0 (br_f h1 (br_f h2 (br_t h3 ⟨vi, br_f h0 (br_f h1 (br_f h2 (br_t h3 ⟨vi, rfl, zz_mk hG⟩)))⟩)))
        · exact br_f h0 (br_f h1 (br_f h2 (br_f h3 (br_f h0 (br_f h1 (br_f h2 (br_f h3 ⟨rfl, zz_mk hG⟩)))))))
theorem i_vc_nodeInfo {k : Nat} {u : SX} {v : SY} (I : i_Rel k u v) (hk : k + 5 ≤ 2562) (v1 : Int32) (v2 : Int32) : wpX_nodeInfo (fun r => wpY_nodeInfo (fun r' => r' = r ∧ i_Rel (k + 5) u v) v v1 v2) u v1 v2 := by
  refine zz_el (P := fun u v => wpX_nodeInfo (fun r => wpY_nodeInfo (fun r' => r' = r ∧ i_Rel (k + 5) u v) v v1 v2) u v1 v2) ?_ I
  intro f_newCount f_depth f_pos f_stale f_lastVerdict f_keptCount f_parseNumber a_ruleLhs a_ruleLen a_ruleRhs a_cells a_tokens a_nodeRule a_nodeFirst a_nodeLast a_nodeBorn a_nodeState a_nodeLook a_nodeSize a_numberOf a_nodeBroken a_nodeReused a_kids a_freeSlots a_order a_newOrder a_headAt a_entryNode a_entryFirst a_entryState g_olds g_entries g_pos g_result g_keptNodes b_nodeRule b_nodeFirst b_nodeLast b_nodeBorn b_nodeState b_nodeLook b_nodeChild b_oldRule b_oldFirst b_oldLast b_oldBorn b_oldState b_oldLook b_entryRef b_entryState tb W0 W K0 n0 ml o fs FF LL bk bn hG
  have hG' := hG
  obtain ⟨ht, hw, hw0, hG0, hn, hml, hS, hp, hb, hO, hO2, hY, hst, hN⟩ := hG
  have J0 := qm_Jk ht.1 hw0 K0 hG0
  have hn0 : n0 ≤ 124 := by rw [hn]; exact (qj_cnt ht.1 hw0 J0).2.2.2.1
  by_cases h0 : v1 < 0
  · exact br_t h0 (br_t h0 ⟨rfl, zz_mk hG'⟩)
  · by_cases h1 : v1 < nI n0
    · obtain ⟨i, i1, rfl⟩ := zz_lt h0 h1 (by omega)
      obtain ⟨s1, s2, s3, s4, s5, s6, s7, s8, s9⟩ := hO i i1
      obtain ⟨y1, y2, y3, y4, y5, y6⟩ := hY i i1
      have hbi := hb i i1
      have v124 : vp_in (nI i) 124 := pk_in i 124 (by omega)
      have v160 : vp_in (nI i) 160 := pk_in i 160 (by omega)
      have vs : vp_in (nI (o i)) 248 := pk_in (o i) 248 s1
      refine br_f h0 (br_t h1 (And.intro v124 (nm_r (zz_at i rfl (by omega) (hS.2.1 i i1)) ?_)))
      by_cases f0 : v2 = 0
      · refine br_t f0 (And.intro vs (br_f h0 (br_t h1 (br_t f0 (And.intro v160 ⟨?_, zz_mk hG'⟩)))))
        rw [zz_at i rfl (by omega) y1, zz_at (o i) rfl (by omega) s2]
      refine br_f f0 ?_
      by_cases f1 : v2 = 1
      · refine br_t f1 (And.intro vs ?_)
        refine pk_eq (bk i) 0 (fun hz => And.intro vs (br_f h0 (br_t h1 (br_f f0 (br_t f1 (And.intro v160 ⟨?_, zz_mk hG'⟩)))))) (fun hz => br_f h0 (br_t h1 (br_f f0 (br_t f1 (And.intro v160 ⟨?_, zz_mk hG'⟩))))) (zz_at (o i) rfl (by omega) s7) rfl
        · rw [zz_at i rfl (by omega) (y5 hz).1, zz_at (o i) rfl (by omega) (s8 hz).1]
        · rw [zz_at i rfl (by omega) (y6 hz).1]
      refine br_f f1 ?_
      by_cases f2 : v2 = 2
      · refine br_t f2 (And.intro vs ?_)
        refine pk_eq (bk i) 0 (fun hz => And.intro vs (br_f h0 (br_t h1 (br_f f0 (br_f f1 (br_t f2 (And.intro v160 ⟨?_, zz_mk hG'⟩))))))) (fun hz => br_f h0 (br_t h1 (br_f f0 (br_f f1 (br_t f2 (And.intro v160 ⟨?_, zz_mk hG'⟩)))))) (zz_at (o i) rfl (by omega) s7) rfl
        · rw [zz_at i rfl (by omega) (y5 hz).2, zz_at (o i) rfl (by omega) (s8 hz).2]
        · rw [zz_at i rfl (by omega) (y6 hz).2]
      refine br_f f2 ?_
      by_cases f3 : v2 = 3
      · refine br_t f3 (And.intro vs (br_f h0 (br_t h1 (br_f f0 (br_f f1 (br_f f2 (br_t f3 (And.intro v160 ⟨?_, zz_mk hG'⟩))))))))
        rw [zz_at i rfl (by omega) y2, zz_at (o i) rfl (by omega) s3]
      refine br_f f3 ?_
      by_cases f4 : v2 = 4
      · refine br_t f4 (And.intro vs (br_f h0 (br_t h1 (br_f f0 (br_f f1 (br_f f2 (br_f f3 (br_t f4 (And.intro v160 ⟨?_, zz_mk hG'⟩)))))))))
        rw [zz_at i rfl (by omega) y3, zz_at (o i) rfl (by omega) s4]
      refine br_f f4 ?_
      by_cases f5 : v2 = 5
      · refine br_t f5 (And.intro vs (br_f h0 (br_t h1 (br_f f0 (br_f f1 (br_f f2 (br_f f3 (br_f f4 (br_t f5 (And.intro v160 ⟨?_, zz_mk hG'⟩))))))))))
        rw [zz_at i rfl (by omega) y4, zz_at (o i) rfl (by omega) s5]
      exact br_f f5 (br_f h0 (br_t h1 (br_f f0 (br_f f1 (br_f f2 (br_f f3 (br_f f4 (br_f f5 ⟨rfl, zz_mk hG'⟩))))))))
    · exact br_f h0 (br_f h1 (br_f h0 (br_f h1 ⟨rfl, zz_mk hG'⟩)))
theorem i_vc_forestAt {k : Nat} {u : SX} {v : SY} (I : i_Rel k u v) (hk : k + 5 ≤ 2562) (v1 : Int32) : wpX_forestAt (fun r => wpY_forestAt (fun r' => r' = r ∧ i_Rel (k + 5) u v) v v1) u v1 := by
  refine zz_el (P := fun u v => wpX_forestAt (fun r => wpY_forestAt (fun r' => r' = r ∧ i_Rel (k + 5) u v) v v1) u v1) ?_ I
  intro f_newCount f_depth f_pos f_stale f_lastVerdict f_keptCount f_parseNumber a_ruleLhs a_ruleLen a_ruleRhs a_cells a_tokens a_nodeRule a_nodeFirst a_nodeLast a_nodeBorn a_nodeState a_nodeLook a_nodeSize a_numberOf a_nodeBroken a_nodeReused a_kids a_freeSlots a_order a_newOrder a_headAt a_entryNode a_entryFirst a_entryState g_olds g_entries g_pos g_result g_keptNodes b_nodeRule b_nodeFirst b_nodeLast b_nodeBorn b_nodeState b_nodeLook b_nodeChild b_oldRule b_oldFirst b_oldLast b_oldBorn b_oldState b_oldLook b_entryRef b_entryState tb W0 W K0 n0 ml o fs FF LL bk bn hG
  have hG' := hG
  obtain ⟨ht, hw, hw0, hG0, hn, hml, hS, hp, hb, hO, hO2, hY, hst, hN⟩ := hG
  by_cases hs : f_stale = 0
  · have J0 := qm_Jk ht.1 hw0 K0 hG0
    obtain ⟨_, c2, c3, c4, _⟩ := qj_cnt ht.1 hw0 J0
    obtain ⟨h1, h2, h3, h4, h5, h6, h7, h8, h9, h10, h11⟩ := hN hs
    subst h3 h5
    refine br_t hs ?_
    by_cases g0 : v1 < 0
    · exact br_t g0 (br_t hs (br_t g0 ⟨rfl, zz_mk hG'⟩))
    · by_cases g1 : v1 < nI (qc_d (qm_run tb W0 K0))
      · obtain ⟨e, e1, rfl⟩ := zz_lt g0 g1 (by omega)
        have vi : vp_in (nI e) 16 := pk_in e 16 (by omega)
        obtain ⟨x1, x2, x3⟩ := h9 e e1
        refine br_f g0 (br_t g1 (And.intro vi (nm_r (zz_at e rfl (by omega) x1) ?_)))
        rcases (J0.1.2.2.2 e e1).2.2.2.2 with g | g
        · have q1 := g.1
          rw [if_neg (by omega)]
          refine br_t (by decide) (And.intro vi (br_t hs (br_f g0 (br_t g1 (And.intro vi ⟨?_, zz_mk hG'⟩)))))
          rw [zz_at e rfl (by omega) x2, zz_at e rfl (by omega) (h10 e e1).1, zz_256, q1, qm_ped e1]
        · have hx := qj_erN J0 e1 g
          have hs1 := (hO (qc_er (qm_run tb W0 K0) e) (by omega)).1
          rw [if_pos g.1]
          refine br_f (nI_pos (by omega)) (And.intro (pk_in (o (qc_er (qm_run tb W0 K0) e)) 248 hs1) (br_t hs (br_f g0 (br_t g1 (And.intro vi ⟨?_, zz_mk hG'⟩)))))
          rw [zz_at e rfl (by omega) (h10 e e1).1, zz_at (o (qc_er (qm_run tb W0 K0) e)) rfl (by omega) (hO2 _ (by omega)).1]
      · exact br_f g0 (br_f g1 (br_t hs (br_f g0 (br_f g1 ⟨rfl, zz_mk hG'⟩))))
  · exact br_f hs (br_f hs ⟨rfl, zz_mk hG'⟩)
end
section
section
variable {tb : qm_T} {W : qm_W} {c : qm_C} {n0 : Nat} {o FF LL bk : Nat → Nat} {bn : Nat → Int32} {f_tokenTotal f_tokenLimit f_freeCount f_storedCount f_newCount f_depth f_pos f_stale f_lastVerdict f_keptCount f_parseNumber : Int32} {a_ruleLhs a_ruleLen a_ruleRhs a_cells a_tokens a_nodeRule a_nodeFirst a_nodeLast a_nodeBorn a_nodeState a_nodeLook a_nodeSize a_numberOf a_nodeBroken a_nodeReused a_kids a_freeSlots a_order a_newOrder a_headAt a_entryNode a_entryFirst a_entryState : Nat → Int32}
theorem wx_85 {post : Int32 → Prop} {i kk : Nat} (ht : zr_t a_ruleLhs a_ruleLen a_ruleRhs a_cells tb) (J : qm_J tb W c) (hn : n0 = qc_n c) (hO : zr_o tb c n0 o FF LL bk bn a_nodeRule a_nodeFirst a_nodeLast a_nodeBorn a_nodeState a_nodeLook a_nodeSize a_nodeBroken a_kids) (hU : ∀ i, i < n0 → bk i = 0 ∧ FF i = qc_F c i ∧ LL i = qc_L c i) (hi : i < n0) (hkk : kk ≤ qt_ln tb (qc_R c i)) (h : post (256 + nI (qm_cp c i kk))) :
    ∀ d j, j + d = kk → ∀ n, d < n → wX_child_85 post (nI kk) (nI (o i)) f_tokenTotal f_tokenLimit f_freeCount f_storedCount f_newCount f_depth f_pos f_stale f_lastVerdict f_keptCount f_parseNumber a_ruleLhs a_ruleLen a_ruleRhs a_cells a_tokens a_nodeRule a_nodeFirst a_nodeLast a_nodeBorn a_nodeState a_nodeLook a_nodeSize a_numberOf a_nodeBroken a_nodeReused a_kids a_freeSlots a_order a_newOrder a_headAt a_entryNode a_entryFirst a_entryState n (nI (qm_cp c i j)) (nI j) := by
  have hs := hO i hi
  have hs1 := hs.1
  have hl4 := (ht.2.1 _ (J.2.1 i (by omega)).1.1).2.2.2.1
  intro d
  induction d with
  | zero =>
    intro j hj n hn'
    obtain ⟨n, rfl⟩ : ∃ m, n = m + 1 := ⟨n - 1, by omega⟩
    have hjk : j = kk := by omega
    subst hjk
    exact pk_le j j (fun _ => h) (fun h => by omega)
  | succ d ih =>
    intro j hj n hn'
    obtain ⟨n, rfl⟩ : ∃ m, n = m + 1 := ⟨n - 1, by omega⟩
    have nxt := ih (j + 1) (by omega) n (by omega)
    have ecp : qm_cp c i (j + 1) = (if qc_C c i j < 256 then qc_L c (qc_C c i j) + 1 else qm_cp c i j + 1) := rfl
    rw [ecp] at nxt
    have hk := hs.2.2.2.2.2.2.2.2 j (by omega)
    refine pk_le kk j (fun h => by omega) (fun _ => ?_)
    refine And.intro (pk_in (o i * 4 + j) 992 (by omega) (zz_m4 (o i) j)) (nm_r (zz_at (o i * 4 + j) (zz_m4 (o i) j) (by omega) hk) ?_)
    by_cases hc : qc_C c i j < 256
    · rw [if_pos hc] at nxt ⊢
      have hcx : qc_C c i j < i := by
        rcases (J.2.1 i (by omega)).2.1 j (by omega) with g | g
        · rw [g.1] at hc; omega
        · exact g.2.1
      have hsc := hO (qc_C c i j) (by omega)
      have hsc1 := hsc.1
      obtain ⟨u1, u2, u3⟩ := hU (qc_C c i j) (by omega)
      have hl := (hsc.2.2.2.2.2.2.2.1 u1).2
      rw [u3] at hl
      refine br_t (nI_pos' (by omega)) (And.intro (pk_in (o (qc_C c i j)) 248 hsc1) (nm_r (e' := nI (qc_L c (qc_C c i j) + 1)) ?_ (nm_r (nI_1 j) nxt)))
      rw [zz_at (o (qc_C c i j)) rfl (by omega) hl, nI_1]
    · rw [if_neg hc] at nxt ⊢
      exact br_f (by decide) (nm_r (nI_1 _) (nm_r (nI_1 j) nxt))
end
theorem i_vc_child {k : Nat} {u : SX} {v : SY} (I : i_Rel k u v) (hk : k + 5 ≤ 2562) (v1 : Int32) (v2 : Int32) : wpX_child (fun r => wpY_child (fun r' => r' = r ∧ i_Rel (k + 5) u v) v v1 v2) u v1 v2 := by
  refine zz_el (P := fun u v => wpX_child (fun r => wpY_child (fun r' => r' = r ∧ i_Rel (k + 5) u v) v v1 v2) u v1 v2) ?_ I
  intro f_newCount f_depth f_pos f_stale f_lastVerdict f_keptCount f_parseNumber a_ruleLhs a_ruleLen a_ruleRhs a_cells a_tokens a_nodeRule a_nodeFirst a_nodeLast a_nodeBorn a_nodeState a_nodeLook a_nodeSize a_numberOf a_nodeBroken a_nodeReused a_kids a_freeSlots a_order a_newOrder a_headAt a_entryNode a_entryFirst a_entryState g_olds g_entries g_pos g_result g_keptNodes b_nodeRule b_nodeFirst b_nodeLast b_nodeBorn b_nodeState b_nodeLook b_nodeChild b_oldRule b_oldFirst b_oldLast b_oldBorn b_oldState b_oldLook b_entryRef b_entryState tb W0 W K0 n0 ml o fs FF LL bk bn hG
  have hG' := hG
  obtain ⟨ht, hw, hw0, hG0, hn, hml, hS, hp, hb, hO, hO2, hY, hst, hN⟩ := hG
  by_cases hs : f_stale = 0
  · have J0 := qm_Jk ht.1 hw0 K0 hG0
    have hn0 : n0 ≤ 124 := by rw [hn]; exact (qj_cnt ht.1 hw0 J0).2.2.2.1
    obtain ⟨h1, h2, h3, h4, h5, h6, h7, h8, h9, h10, h11⟩ := hN hs
    refine br_t hs ?_
    by_cases g0 : v1 < 0
    · exact br_t g0 (br_t hs (br_t g0 ⟨rfl, zz_mk hG'⟩))
    · by_cases g1 : v1 < nI n0
      · obtain ⟨i, i1, rfl⟩ := zz_lt g0 g1 (by omega)
        obtain ⟨s1, s2, s3, s4, s5, s6, s7, s8, s9⟩ := hO i i1
        obtain ⟨y1, _⟩ := hY i i1
        have hR := (J0.2.1 i (by omega)).1.1
        have v124 : vp_in (nI i) 124 := pk_in i 124 (by omega)
        have v160 : vp_in (nI i) 160 := pk_in i 160 (by omega)
        have vs : vp_in (nI (o i)) 248 := pk_in (o i) 248 s1
        have hT := ht.2.1 _ hR
        have eX : a_nodeRule (nI (o i)).toNatClampNeg = nI (qc_R (qm_run tb W0 K0) i) := zz_at (o i) rfl (by omega) s2
        have eY : b_nodeRule (nI i).toNatClampNeg = nI (qc_R (qm_run tb W0 K0) i) := zz_at i rfl (by omega) y1
        have eL : a_ruleLen (nI (qc_R (qm_run tb W0 K0) i)).toNatClampNeg = nI (qt_ln tb (qc_R (qm_run tb W0 K0) i)) := zz_at _ rfl (by omega) hT.2.2.1
        have v12 : vp_in (nI (qc_R (qm_run tb W0 K0) i)) 12 := pk_in (qc_R (qm_run tb W0 K0) i) 12 hR
        refine br_f g0 (br_t g1 (And.intro v124 (nm_r (zz_at i rfl (by omega) (hS.2.1 i i1)) ?_)))
        by_cases g2 : v2 < 0
        · exact br_t g2 (br_t hs (br_f g0 (br_t g1 (br_t g2 ⟨rfl, zz_mk hG'⟩))))
        refine br_f g2 (And.intro vs ?_)
        rw [eX, eL]
        refine And.intro v12 ?_
        have Yin : ∀ {A : Prop} {r : Int32}, (v2 < nI (qt_ln tb (qc_R (qm_run tb W0 K0) i)) → vp_in (nI i * 4 + v2) 640 ∧ b_nodeChild (nI i * 4 + v2).toNatClampNeg = r) → (¬ v2 < nI (qt_ln tb (qc_R (qm_run tb W0 K0) i)) → r = -1) → A → wpY_child (fun r' => r' = r ∧ A) (nI ml, nI W.2, nI n0, g_olds, g_entries, g_pos, g_result, g_keptNodes, f_parseNumber, f_stale, a_ruleLhs, a_ruleLen, a_ruleRhs, a_cells, a_tokens, b_nodeRule, b_nodeFirst, b_nodeLast, b_nodeBorn, b_nodeState, b_nodeLook, b_nodeChild, b_oldRule, b_oldFirst, b_oldLast, b_oldBorn, b_oldState, b_oldLook, b_entryRef, b_entryState) (nI i) v2 := by
          intro A r q1 q2 hA
          refine br_t hs (br_f g0 (br_t g1 (br_f g2 (And.intro v160 ?_))))
          rw [eY, eL]
          refine And.intro v12 ?_
          by_cases g3 : v2 < nI (qt_ln tb (qc_R (qm_run tb W0 K0) i))
          · exact br_t g3 (And.intro (q1 g3).1 ⟨(q1 g3).2, hA⟩)
          · exact br_f g3 ⟨(q2 g3).symm, hA⟩
        by_cases g3 : v2 < nI (qt_ln tb (qc_R (qm_run tb W0 K0) i))
        · obtain ⟨j, j1, rfl⟩ := zz_lt g2 g3 (by omega)
          have hCh := h11 i i1 j j1
          have hcv : vp_in (nI i * 4 + nI j) 640 := pk_in (i * 4 + j) 640 (by omega) (zz_m4 i j)
          have hce : b_nodeChild (nI i * 4 + nI j).toNatClampNeg = nI (qc_C (qm_run tb W0 K0) i j) := zz_at (i * 4 + j) (zz_m4 i j) (by omega) hCh
          refine br_t g3 (And.intro (pk_in (o i * 4 + j) 992 (by omega) (zz_m4 (o i) j)) (nm_r (zz_at (o i * 4 + j) (zz_m4 (o i) j) (by omega) (s9 j j1)) ?_))
          rcases (J0.2.1 i (by omega)).2.1 j j1 with g | g
          · have q1 := g.1
            rw [if_neg (by omega)]
            obtain ⟨u1, u2, u3⟩ := h2 i i1
            have hf := (s8 u1).1
            rw [u2] at hf
            refine br_t (by decide) (And.intro vs (nm_r (zz_at (o i) rfl (by omega) hf) ⟨j + 1, ?_⟩))
            refine wx_85 ht J0 hn hO h2 i1 (by omega) ?_ j 0 (by omega) _ (by omega)
            exact Yin (fun _ => ⟨hcv, by rw [hce, zz_256, q1]⟩) (fun h => absurd g3 h) (zz_mk hG')
          · have hcl : qc_C (qm_run tb W0 K0) i j < n0 := by omega
            have hsc1 := (hO _ hcl).1
            rw [if_pos g.2.2]
            refine br_f (nI_pos (by omega)) (And.intro (pk_in (o (qc_C (qm_run tb W0 K0) i j)) 248 hsc1) ?_)
            exact Yin (fun _ => ⟨hcv, by rw [hce, zz_at (o (qc_C (qm_run tb W0 K0) i j)) rfl (by omega) (hO2 _ hcl).1]⟩) (fun h => absurd g3 h) (zz_mk hG')
        · exact br_f g3 (Yin (fun h => absurd h g3) (fun _ => rfl) (zz_mk hG'))
      · exact br_f g0 (br_f g1 (br_t hs (br_f g0 (br_f g1 ⟨rfl, zz_mk hG'⟩))))
  · exact br_f hs (br_f hs ⟨rfl, zz_mk hG'⟩)
theorem zz_enc {n0 : Nat} {o : Nat → Nat} {x1 x2 : Int32} {f_tokenTotal f_tokenLimit f_freeCount f_storedCount f_newCount f_depth f_pos f_stale f_lastVerdict f_keptCount f_parseNumber : Int32} {a_ruleLhs a_ruleLen a_ruleRhs a_cells a_tokens a_nodeRule a_nodeFirst a_nodeLast a_nodeBorn a_nodeState a_nodeLook a_nodeSize a_numberOf a_nodeBroken a_nodeReused a_kids a_freeSlots a_order a_newOrder a_headAt a_entryNode a_entryFirst a_entryState : Nat → Int32} {g_greatest g_count g_nodes g_olds g_entries g_pos g_result g_keptNodes g_parseNumber g_stale : Int32} {b_ruleLhs b_ruleLen b_ruleRhs b_cells b_token b_nodeRule b_nodeFirst b_nodeLast b_nodeBorn b_nodeState b_nodeLook b_nodeChild b_oldRule b_oldFirst b_oldLast b_oldBorn b_oldState b_oldLook b_entryRef b_entryState : Nat → Int32} (hn0 : n0 ≤ 124) (ho : ∀ i, i < n0 → a_order i = nI (o i) ∧ o i < 248 ∧ a_nodeFirst (o i) = b_nodeFirst i ∧ a_nodeLast (o i) = b_nodeLast i) :
    ∀ d i, i + d = n0 → ∃ r : Int32, (∀ post : Int32 → Prop, post r → ∀ n, d < n → wX_enclosing_28 post x1 x2 f_tokenTotal f_tokenLimit f_freeCount (nI n0) f_newCount f_depth f_pos f_stale f_lastVerdict f_keptCount f_parseNumber a_ruleLhs a_ruleLen a_ruleRhs a_cells a_tokens a_nodeRule a_nodeFirst a_nodeLast a_nodeBorn a_nodeState a_nodeLook a_nodeSize a_numberOf a_nodeBroken a_nodeReused a_kids a_freeSlots a_order a_newOrder a_headAt a_entryNode a_entryFirst a_entryState n (nI i)) ∧ (∀ post : Int32 → Prop, post r → ∀ n, d < n → wY_enclosing_28 post x1 x2 g_greatest g_count (nI n0) g_olds g_entries g_pos g_result g_keptNodes g_parseNumber g_stale b_ruleLhs b_ruleLen b_ruleRhs b_cells b_token b_nodeRule b_nodeFirst b_nodeLast b_nodeBorn b_nodeState b_nodeLook b_nodeChild b_oldRule b_oldFirst b_oldLast b_oldBorn b_oldState b_oldLook b_entryRef b_entryState n (nI i)) := by
  intro d
  induction d with
  | zero =>
    intro i hi
    refine ⟨-2, fun post hp n hn => ?_, fun post hp n hn => ?_⟩
    · obtain ⟨n, rfl⟩ : ∃ m, n = m + 1 := ⟨n - 1, by omega⟩
      exact pk_le n0 i (fun _ => hp) (fun h => by omega)
    · obtain ⟨n, rfl⟩ : ∃ m, n = m + 1 := ⟨n - 1, by omega⟩
      exact pk_le n0 i (fun _ => hp) (fun h => by omega)
  | succ d ih =>
    intro i hi
    have hin : i < n0 := by omega
    obtain ⟨o1, o2, o3, o4⟩ := ho i hin
    obtain ⟨r, hX, hY⟩ := ih (i + 1) (by omega)
    have vs : vp_in (nI (o i)) 248 := pk_in (o i) 248 o2
    have v124 : vp_in (nI i) 124 := pk_in i 124 (by omega)
    have v160 : vp_in (nI i) 160 := pk_in i 160 (by omega)
    have eF : a_nodeFirst (nI (o i)).toNatClampNeg = b_nodeFirst i := zz_at (o i) rfl (by omega) o3
    have eL : a_nodeLast (nI (o i)).toNatClampNeg = b_nodeLast i := zz_at (o i) rfl (by omega) o4
    have fF : b_nodeFirst (nI i).toNatClampNeg = b_nodeFirst i := zz_at i rfl (by omega) rfl
    have fL : b_nodeLast (nI i).toNatClampNeg = b_nodeLast i := zz_at i rfl (by omega) rfl
    by_cases c1 : x1 < b_nodeFirst i
    · refine ⟨r, fun post hp n hn => ?_, fun post hp n hn => ?_⟩
      · obtain ⟨n, rfl⟩ : ∃ m, n = m + 1 := ⟨n - 1, by omega⟩
        refine pk_le n0 i (fun h => by omega) (fun _ => And.intro v124 (nm_r (zz_at i rfl (by omega) o1) (And.intro vs ?_)))
        rw [eF]
        exact br_t c1 (nm_r (nI_1 i) (hX post hp n (by omega)))
      · obtain ⟨n, rfl⟩ : ∃ m, n = m + 1 := ⟨n - 1, by omega⟩
        refine pk_le n0 i (fun h => by omega) (fun _ => And.intro v160 ?_)
        rw [fF]
        exact br_t c1 (nm_r (nI_1 i) (hY post hp n (by omega)))
    · by_cases c2 : b_nodeLast i < x2
      · refine ⟨r, fun post hp n hn => ?_, fun post hp n hn => ?_⟩
        · obtain ⟨n, rfl⟩ : ∃ m, n = m + 1 := ⟨n - 1, by omega⟩
          refine pk_le n0 i (fun h => by omega) (fun _ => And.intro v124 (nm_r (zz_at i rfl (by omega) o1) (And.intro vs ?_)))
          rw [eF, eL]
          exact br_f c1 (And.intro vs (br_t c2 (nm_r (nI_1 i) (hX post hp n (by omega)))))
        · obtain ⟨n, rfl⟩ : ∃ m, n = m + 1 := ⟨n - 1, by omega⟩
          refine pk_le n0 i (fun h => by omega) (fun _ => And.intro v160 ?_)
          rw [fF, fL]
          exact br_f c1 (And.intro v160 (br_t c2 (nm_r (nI_1 i) (hY post hp n (by omega)))))
      · refine ⟨nI i, fun post hp n hn => ?_, fun post hp n hn => ?_⟩
        · obtain ⟨n, rfl⟩ : ∃ m, n = m + 1 := ⟨n - 1, by omega⟩
          refine pk_le n0 i (fun h => by omega) (fun _ => And.intro v124 (nm_r (zz_at i rfl (by omega) o1) (And.intro vs ?_)))
          rw [eF, eL]
          exact br_f c1 (And.intro vs (br_f c2 hp))
        · obtain ⟨n, rfl⟩ : ∃ m, n = m + 1 := ⟨n - 1, by omega⟩
          refine pk_le n0 i (fun h => by omega) (fun _ => And.intro v160 ?_)
          rw [fF, fL]
          exact br_f c1 (And.intro v160 (br_f c2 hp))
theorem i_vc_enclosing {k : Nat} {u : SX} {v : SY} (I : i_Rel k u v) (hk : k + 5 ≤ 2562) (v1 : Int32) (v2 : Int32) : wpX_enclosing (fun r => wpY_enclosing (fun r' => r' = r ∧ i_Rel (k + 5) u v) v v1 v2) u v1 v2 := by
  refine zz_el (P := fun u v => wpX_enclosing (fun r => wpY_enclosing (fun r' => r' = r ∧ i_Rel (k + 5) u v) v v1 v2) u v1 v2) ?_ I
  intro f_newCount f_depth f_pos f_stale f_lastVerdict f_keptCount f_parseNumber a_ruleLhs a_ruleLen a_ruleRhs a_cells a_tokens a_nodeRule a_nodeFirst a_nodeLast a_nodeBorn a_nodeState a_nodeLook a_nodeSize a_numberOf a_nodeBroken a_nodeReused a_kids a_freeSlots a_order a_newOrder a_headAt a_entryNode a_entryFirst a_entryState g_olds g_entries g_pos g_result g_keptNodes b_nodeRule b_nodeFirst b_nodeLast b_nodeBorn b_nodeState b_nodeLook b_nodeChild b_oldRule b_oldFirst b_oldLast b_oldBorn b_oldState b_oldLook b_entryRef b_entryState tb W0 W K0 n0 ml o fs FF LL bk bn hG
  have hG' := hG
  obtain ⟨ht, hw, hw0, hG0, hn, hml, hS, hp, hb, hO, hO2, hY, hst, hN⟩ := hG
  by_cases hs : f_stale = 0
  · have J0 := qm_Jk ht.1 hw0 K0 hG0
    have hn0 : n0 ≤ 124 := by rw [hn]; exact (qj_cnt ht.1 hw0 J0).2.2.2.1
    have h2 := (hN hs).2.1
    have ho : ∀ i, i < n0 → a_order i = nI (o i) ∧ o i < 248 ∧ a_nodeFirst (o i) = b_nodeFirst i ∧ a_nodeLast (o i) = b_nodeLast i := by
      intro i hi
      obtain ⟨u1, _⟩ := h2 i hi
      have hx := (hO i hi).2.2.2.2.2.2.2.1 u1
      have hy := (hY i hi).2.2.2.2.1 u1
      exact ⟨hS.2.1 i hi, (hO i hi).1, hx.1.trans hy.1.symm, hx.2.trans hy.2.symm⟩
    refine br_t hs ?_
    by_cases g0 : v1 < 0
    · exact br_t g0 (br_t hs (br_t g0 ⟨rfl, zz_mk hG'⟩))
    · by_cases g1 : v2 < v1
      · exact br_f g0 (br_t g1 (br_t hs (br_f g0 (br_t g1 ⟨rfl, zz_mk hG'⟩))))
      · by_cases g2 : v2 < nI W.2
        · obtain ⟨r, hX, hYY⟩ := zz_enc (x1 := v1) (x2 := v2) (n0 := n0) (o := o) (f_tokenTotal := nI W.2) (f_tokenLimit := nI ml) (f_freeCount := nI (248 - n0)) (f_storedCount := nI n0) (f_newCount := f_newCount) (f_depth := f_depth) (f_pos := f_pos) (f_stale := f_stale) (f_lastVerdict := f_lastVerdict) (f_keptCount := f_keptCount) (f_parseNumber := f_parseNumber) (a_ruleLhs := a_ruleLhs) (a_ruleLen := a_ruleLen) (a_ruleRhs := a_ruleRhs) (a_cells := a_cells) (a_tokens := a_tokens) (a_nodeRule := a_nodeRule) (a_nodeFirst := a_nodeFirst) (a_nodeLast := a_nodeLast) (a_nodeBorn := a_nodeBorn) (a_nodeState := a_nodeState) (a_nodeLook := a_nodeLook) (a_nodeSize := a_nodeSize) (a_numberOf := a_numberOf) (a_nodeBroken := a_nodeBroken) (a_nodeReused := a_nodeReused) (a_kids := a_kids) (a_freeSlots := a_freeSlots) (a_order := a_order) (a_newOrder := a_newOrder) (a_headAt := a_headAt) (a_entryNode := a_entryNode) (a_entryFirst := a_entryFirst) (a_entryState := a_entryState) (g_greatest := nI ml) (g_count := nI W.2) (g_nodes := nI n0) (g_olds := g_olds) (g_entries := g_entries) (g_pos := g_pos) (g_result := g_result) (g_keptNodes := g_keptNodes) (g_parseNumber := f_parseNumber) (g_stale := f_stale) (b_ruleLhs := a_ruleLhs) (b_ruleLen := a_ruleLen) (b_ruleRhs := a_ruleRhs) (b_cells := a_cells) (b_token := a_tokens) (b_nodeRule := b_nodeRule) (b_nodeFirst := b_nodeFirst) (b_nodeLast := b_nodeLast) (b_nodeBorn := b_nodeBorn) (b_nodeState := b_nodeState) (b_nodeLook := b_nodeLook) (b_nodeChild := b_nodeChild) (b_oldRule := b_oldRule) (b_oldFirst := b_oldFirst) (b_oldLast := b_oldLast) (b_oldBorn := b_oldBorn) (b_oldState := b_oldState) (b_oldLook := b_oldLook) (b_entryRef := b_entryRef) (b_entryState := b_entryState) hn0 ho n0 0 (by omega)
          exact br_f g0 (br_f g1 (br_t g2 ⟨n0 + 1, hX _ (br_t hs (br_f g0 (br_f g1 (br_t g2 ⟨n0 + 1, hYY _ ⟨rfl, zz_mk hG'⟩ _ (by omega)⟩)))) _ (by omega)⟩))
        · exact br_f g0 (br_f g1 (br_f g2 (br_t hs (br_f g0 (br_f g1 (br_f g2 ⟨rfl, zz_mk hG'⟩))))))
  · exact br_f hs (br_f hs ⟨rfl, zz_mk hG'⟩)
end
section
/-! the edits: which old nodes break, and where the others go -/
def ze_b (lo hi : Nat) (FF LL bk : Nat → Nat) : Nat → Nat := fun i => if bk i = 0 ∧ FF i < lo ∧ hi ≤ LL i then 1 else bk i
def ze_in (a : Nat → Int32) (m i : Nat) : Nat → Int32 := fun j => if i < j ∧ j ≤ m then a (j - 1) else a j
def ze_de (a : Nat → Int32) (p i : Nat) : Nat → Int32 := fun j => if p ≤ j ∧ j < i then a (j + 1) else a j
theorem ze_in0 (a : Nat → Int32) (m : Nat) : ze_in a m m = a := by
  funext j; unfold ze_in; rw [if_neg (by omega)]
theorem ze_in1 (a : Nat → Int32) {m i : Nat} (h : i + 1 ≤ m) : upd (ze_in a m (i + 1)) (i + 1) (ze_in a m (i + 1) i) = ze_in a m i := by
  funext j
  by_cases hj : j = i + 1
  · rw [hj, pk_us]; unfold ze_in; rw [if_neg (by omega), if_pos (by omega)]; rfl
  · rw [pk_un hj]; unfold ze_in
    by_cases h1 : i < j ∧ j ≤ m
    · rw [if_pos h1, if_pos (by omega)]
    · rw [if_neg h1, if_neg (by omega)]
theorem ze_de0 (a : Nat → Int32) (p : Nat) : ze_de a p p = a := by
  funext j; unfold ze_de; rw [if_neg (by omega)]
theorem ze_de1 (a : Nat → Int32) {p i : Nat} (h : p ≤ i) : upd (ze_de a p i) i (ze_de a p i (i + 1)) = ze_de a p (i + 1) := by
  funext j
  by_cases hj : j = i
  · rw [hj, pk_us]; unfold ze_de; rw [if_neg (by omega), if_pos (by omega)]
  · rw [pk_un hj]; unfold ze_de
    by_cases h1 : p ≤ j ∧ j < i
    · rw [if_pos h1, if_pos (by omega)]
    · rw [if_neg h1, if_neg (by omega)]
section
variable {tb : qm_T} {c0 : qm_C} {n0 : Nat} {o FF LL bk : Nat → Nat} {bn : Nat → Int32} {f_tokenTotal f_tokenLimit f_freeCount f_storedCount f_newCount f_depth f_pos f_stale f_lastVerdict f_keptCount f_parseNumber : Int32} {a_ruleLhs a_ruleLen a_ruleRhs a_cells a_tokens a_nodeRule a_nodeFirst a_nodeLast a_nodeBorn a_nodeState a_nodeLook a_nodeSize a_numberOf a_nodeBroken a_nodeReused a_kids a_freeSlots a_order a_newOrder a_headAt a_entryNode a_entryFirst a_entryState : Nat → Int32}
theorem wx_brk {post : SX → Prop} {lo hi : Nat} {x1 : Int32} (hx : ∀ f, f < 16 → (x1 < nI f ↔ lo ≤ f)) (hhi : hi < 2 ^ 31) (hn0 : n0 ≤ 124) (hi' : zx_inj o n0) (ho : ∀ i, i < n0 → a_order i = nI (o i)) (hO : zr_o tb c0 n0 o FF LL bk bn a_nodeRule a_nodeFirst a_nodeLast a_nodeBorn a_nodeState a_nodeLook a_nodeSize a_nodeBroken a_kids) (hb : ∀ i, i < n0 → bk i ≤ 1 ∧ (bk i = 0 → FF i < 16 ∧ LL i < 16))
    (h : ∀ v8 : Nat → Int32, (∀ i, i < n0 → v8 (o i) = nI (ze_b lo hi FF LL bk i)) → post (f_tokenTotal, f_tokenLimit, f_freeCount, nI n0, f_newCount, f_depth, f_pos, f_stale, f_lastVerdict, f_keptCount, f_parseNumber, a_ruleLhs, a_ruleLen, a_ruleRhs, a_cells, a_tokens, a_nodeRule, a_nodeFirst, a_nodeLast, a_nodeBorn, a_nodeState, a_nodeLook, a_nodeSize, a_numberOf, v8, a_nodeReused, a_kids, a_freeSlots, a_order, a_newOrder, a_headAt, a_entryNode, a_entryFirst, a_entryState)) : wpX_breakNodes post (f_tokenTotal, f_tokenLimit, f_freeCount, nI n0, f_newCount, f_depth, f_pos, f_stale, f_lastVerdict, f_keptCount, f_parseNumber, a_ruleLhs, a_ruleLen, a_ruleRhs, a_cells, a_tokens, a_nodeRule, a_nodeFirst, a_nodeLast, a_nodeBorn, a_nodeState, a_nodeLook, a_nodeSize, a_numberOf, a_nodeBroken, a_nodeReused, a_kids, a_freeSlots, a_order, a_newOrder, a_headAt, a_entryNode, a_entryFirst, a_entryState) x1 (nI hi) := by
  have H : ∀ d i, i + d = n0 → ∀ n, d < n → ∀ v8 : Nat → Int32, (∀ j, j < n0 → j < i → v8 (o j) = nI (ze_b lo hi FF LL bk j)) → (∀ j, j < n0 → i ≤ j → v8 (o j) = nI (bk j)) → wX_breakNodes_2 post x1 (nI hi) f_tokenTotal f_tokenLimit f_freeCount (nI n0) f_newCount f_depth f_pos f_stale f_lastVerdict f_keptCount f_parseNumber n (nI i) a_ruleLhs a_ruleLen a_ruleRhs a_cells a_tokens a_nodeRule a_nodeFirst a_nodeLast a_nodeBorn a_nodeState a_nodeLook a_nodeSize a_numberOf v8 a_nodeReused a_kids a_freeSlots a_order a_newOrder a_headAt a_entryNode a_entryFirst a_entryState := by
    intro d
    induction d with
    | zero =>
      intro i hi0 n hn v8 h1 h2
      obtain ⟨n, rfl⟩ : ∃ m, n = m + 1 := ⟨n - 1, by omega⟩
      exact pk_le n0 i (fun _ => h v8 (fun j hj => h1 j hj (by omega))) (fun h => by omega)
    | succ d ih =>
      intro i hi0 n hn v8 h1 h2
      obtain ⟨n, rfl⟩ : ∃ m, n = m + 1 := ⟨n - 1, by omega⟩
      have hin : i < n0 := by omega
      obtain ⟨s1, s2, s3, s4, s5, s6, s7, s8, s9⟩ := hO i hin
      obtain ⟨b1, b2⟩ := hb i hin
      have vs : vp_in (nI (o i)) 248 := pk_in (o i) 248 s1
      have nxt : ∀ v8' : Nat → Int32, (∀ j, j < n0 → j ≠ i → v8' (o j) = v8 (o j)) → v8' (o i) = nI (ze_b lo hi FF LL bk i) → wX_breakNodes_2 post x1 (nI hi) f_tokenTotal f_tokenLimit f_freeCount (nI n0) f_newCount f_depth f_pos f_stale f_lastVerdict f_keptCount f_parseNumber n (nI (i + 1)) a_ruleLhs a_ruleLen a_ruleRhs a_cells a_tokens a_nodeRule a_nodeFirst a_nodeLast a_nodeBorn a_nodeState a_nodeLook a_nodeSize a_numberOf v8' a_nodeReused a_kids a_freeSlots a_order a_newOrder a_headAt a_entryNode a_entryFirst a_entryState := by
        intro v8' g1 g2
        refine ih (i + 1) (by omega) n (by omega) v8' ?_ ?_
        · intro j j1 j2
          by_cases hji : j = i
          · rw [hji]; exact g2
          · rw [g1 j j1 hji]; exact h1 j j1 (by omega)
        · intro j j1 j2
          rw [g1 j j1 (by omega)]; exact h2 j j1 (by omega)
      have hv8 := h2 i hin (Nat.le_refl _)
      have eF : a_nodeFirst (nI (o i)).toNatClampNeg = a_nodeFirst (o i) := zz_at (o i) rfl (by omega) rfl
      have eL : a_nodeLast (nI (o i)).toNatClampNeg = a_nodeLast (o i) := zz_at (o i) rfl (by omega) rfl
      refine pk_le n0 i (fun h => by omega) (fun _ => ?_)
      refine And.intro (pk_in i 124 (by omega)) (nm_r (zz_at i rfl (by omega) (ho i hin)) (And.intro vs ?_))
      rw [eF, eL]
      by_cases c1 : x1 < a_nodeFirst (o i)
      · refine br_t c1 (nm_r (nI_1 i) (nxt v8 (fun _ _ _ => rfl) ?_))
        rw [hv8]
        unfold ze_b
        by_cases hz : bk i = 0
        · rw [(s8 hz).1, hx _ (b2 hz).1] at c1
          rw [if_neg (by omega)]
        · rw [if_neg (by omega)]
      · refine br_f c1 (And.intro vs ?_)
        by_cases c2 : a_nodeLast (o i) < nI hi
        · refine br_t c2 (nm_r (nI_1 i) (nxt v8 (fun _ _ _ => rfl) ?_))
          rw [hv8]
          unfold ze_b
          by_cases hz : bk i = 0
          · have := (b2 hz).2
            rw [(s8 hz).2, nI_ltI (by omega) hhi] at c2
            rw [if_neg (by omega)]
          · rw [if_neg (by omega)]
        · refine br_f c2 (And.intro vs (nm_r (zz_up (o i) rfl (by omega) zz_b1) (nm_r (nI_1 i) (nxt _ (fun j j1 j2 => pk_un (fun he => j2 (hi' _ _ j1 hin he))) ?_))))
          rw [pk_us]
          unfold ze_b
          by_cases hz : bk i = 0
          · have b3 := b2 hz
            rw [(s8 hz).1, hx _ b3.1] at c1
            rw [(s8 hz).2, nI_ltI (by omega) hhi] at c2
            rw [if_pos ⟨hz, by omega, by omega⟩]; rfl
          · rw [if_neg (by omega), show bk i = 1 by omega]; rfl
  exact ⟨n0 + 1, H n0 0 (by omega) _ (by omega) a_nodeBroken (fun j _ hj => absurd hj (Nat.not_lt_zero _)) (fun j hj _ => (hO j hj).2.2.2.2.2.2.1)⟩
theorem wx_mov {post : SX → Prop} {fr : Nat} {x2 : Int32} {FF' LL' : Nat → Nat} (hfr : fr < 2 ^ 31) (hn0 : n0 ≤ 124) (hi' : zx_inj o n0) (ho : ∀ i, i < n0 → a_order i = nI (o i) ∧ o i < 248) (hbr : ∀ i, i < n0 → a_nodeBroken (o i) = nI (bk i) ∧ bk i ≤ 1) (hFL : ∀ i, i < n0 → bk i = 0 → a_nodeFirst (o i) = nI (FF i) ∧ a_nodeLast (o i) = nI (LL i) ∧ FF i < 16)
    (hm : ∀ i, i < n0 → bk i = 0 → (fr ≤ FF i → nI (FF i) + x2 = nI (FF' i) ∧ nI (LL i) + x2 = nI (LL' i)) ∧ (FF i < fr → FF' i = FF i ∧ LL' i = LL i))
    (h : ∀ v2 v3 : Nat → Int32, (∀ i, i < n0 → bk i = 0 → v2 (o i) = nI (FF' i) ∧ v3 (o i) = nI (LL' i)) → post (f_tokenTotal, f_tokenLimit, f_freeCount, nI n0, f_newCount, f_depth, f_pos, f_stale, f_lastVerdict, f_keptCount, f_parseNumber, a_ruleLhs, a_ruleLen, a_ruleRhs, a_cells, a_tokens, a_nodeRule, v2, v3, a_nodeBorn, a_nodeState, a_nodeLook, a_nodeSize, a_numberOf, a_nodeBroken, a_nodeReused, a_kids, a_freeSlots, a_order, a_newOrder, a_headAt, a_entryNode, a_entryFirst, a_entryState)) : wpX_moveNodes post (f_tokenTotal, f_tokenLimit, f_freeCount, nI n0, f_newCount, f_depth, f_pos, f_stale, f_lastVerdict, f_keptCount, f_parseNumber, a_ruleLhs, a_ruleLen, a_ruleRhs, a_cells, a_tokens, a_nodeRule, a_nodeFirst, a_nodeLast, a_nodeBorn, a_nodeState, a_nodeLook, a_nodeSize, a_numberOf, a_nodeBroken, a_nodeReused, a_kids, a_freeSlots, a_order, a_newOrder, a_headAt, a_entryNode, a_entryFirst, a_entryState) (nI fr) x2 := by
  have H : ∀ d i, i + d = n0 → ∀ n, d < n → ∀ v2 v3 : Nat → Int32, (∀ j, j < n0 → j < i → bk j = 0 → v2 (o j) = nI (FF' j) ∧ v3 (o j) = nI (LL' j)) → (∀ j, j < n0 → i ≤ j → bk j = 0 → v2 (o j) = nI (FF j) ∧ v3 (o j) = nI (LL j)) → wX_moveNodes_2 post (nI fr) x2 f_tokenTotal f_tokenLimit f_freeCount (nI n0) f_newCount f_depth f_pos f_stale f_lastVerdict f_keptCount f_parseNumber n (nI i) a_ruleLhs a_ruleLen a_ruleRhs a_cells a_tokens a_nodeRule v2 v3 a_nodeBorn a_nodeState a_nodeLook a_nodeSize a_numberOf a_nodeBroken a_nodeReused a_kids a_freeSlots a_order a_newOrder a_headAt a_entryNode a_entryFirst a_entryState := by
    intro d
    induction d with
    | zero =>
      intro i hi0 n hn v2 v3 h1 h2
      obtain ⟨n, rfl⟩ : ∃ m, n = m + 1 := ⟨n - 1, by omega⟩
      exact pk_le n0 i (fun _ => h v2 v3 (fun j hj => h1 j hj (by omega))) (fun h => by omega)
    | succ d ih =>
      intro i hi0 n hn v2 v3 h1 h2
      obtain ⟨n, rfl⟩ : ∃ m, n = m + 1 := ⟨n - 1, by omega⟩
      have hin : i < n0 := by omega
      obtain ⟨o1, o2⟩ := ho i hin
      obtain ⟨b1, b2⟩ := hbr i hin
      have vs : vp_in (nI (o i)) 248 := pk_in (o i) 248 o2
      have nxt : ∀ w2 w3 : Nat → Int32, (∀ j, j < n0 → j ≠ i → w2 (o j) = v2 (o j) ∧ w3 (o j) = v3 (o j)) → (bk i = 0 → w2 (o i) = nI (FF' i) ∧ w3 (o i) = nI (LL' i)) → wX_moveNodes_2 post (nI fr) x2 f_tokenTotal f_tokenLimit f_freeCount (nI n0) f_newCount f_depth f_pos f_stale f_lastVerdict f_keptCount f_parseNumber n (nI (i + 1)) a_ruleLhs a_ruleLen a_ruleRhs a_cells a_tokens a_nodeRule w2 w3 a_nodeBorn a_nodeState a_nodeLook a_nodeSize a_numberOf a_nodeBroken a_nodeReused a_kids a_freeSlots a_order a_newOrder a_headAt a_entryNode a_entryFirst a_entryState := by
        intro w2 w3 g1 g2
        refine ih (i + 1) (by omega) n (by omega) w2 w3 ?_ ?_
        · intro j j1 j2 j3
          by_cases hji : j = i
          · rw [hji] at j3 ⊢; exact g2 j3
          · rw [(g1 j j1 hji).1, (g1 j j1 hji).2]; exact h1 j j1 (by omega) j3
        · intro j j1 j2 j3
          rw [(g1 j j1 (by omega)).1, (g1 j j1 (by omega)).2]; exact h2 j j1 (by omega) j3
      refine pk_le n0 i (fun h => by omega) (fun _ => ?_)
      refine And.intro (pk_in i 124 (by omega)) (nm_r (zz_at i rfl (by omega) o1) (And.intro vs ?_))
      refine pk_eq (bk i) 0 (fun hz => And.intro vs ?_) (fun hz => nm_r (nI_1 i) (nxt v2 v3 (fun _ _ _ => ⟨rfl, rfl⟩) (fun h => absurd h hz))) (zz_at (o i) rfl (by omega) b1) rfl
      obtain ⟨e1, e2⟩ := h2 i hin (Nat.le_refl _) hz
      obtain ⟨f1, f2, f3⟩ := hFL i hin hz
      obtain ⟨m1, m2⟩ := hm i hin hz
      have eF : v2 (nI (o i)).toNatClampNeg = nI (FF i) := zz_at (o i) rfl (by omega) e1
      have eL : v3 (nI (o i)).toNatClampNeg = nI (LL i) := zz_at (o i) rfl (by omega) e2
      refine pk_lt (FF i) fr (fun hlt => ?_) (fun hge => ?_) eF rfl
      · refine nm_r (nI_1 i) (nxt v2 v3 (fun _ _ _ => ⟨rfl, rfl⟩) (fun _ => ?_))
        rw [(m2 hlt).1, (m2 hlt).2]; exact ⟨e1, e2⟩
      · obtain ⟨k1, k2⟩ := m1 hge
        refine And.intro vs (And.intro vs (nm_r (zz_up (w := nI (FF' i)) (o i) rfl (by omega) (by rw [eF, k1])) (And.intro vs (And.intro vs (nm_r (zz_up (w := nI (LL' i)) (o i) rfl (by omega) (by rw [eL, k2])) (nm_r (nI_1 i) (nxt _ _ ?_ ?_)))))))
        · intro j j1 j2
          have hne : o j ≠ o i := fun he => j2 (hi' _ _ j1 hin he)
          exact ⟨pk_un hne, pk_un hne⟩
        · intro _; rw [pk_us, pk_us]; exact ⟨rfl, rfl⟩
  exact ⟨n0 + 1, H n0 0 (by omega) _ (by omega) a_nodeFirst a_nodeLast (fun j _ hj => absurd hj (Nat.not_lt_zero _)) (fun j hj _ hz => ⟨(hFL j hj hz).1, (hFL j hj hz).2.1⟩)⟩
end
end
section
def ze_up (p : Nat) (FF X : Nat → Nat) : Nat → Nat := fun i => if p ≤ FF i then X i + 1 else X i
def ze_dn (p : Nat) (FF X : Nat → Nat) : Nat → Nat := fun i => if p < FF i then X i - 1 else X i
def zy_fl (FF LL bk : Nat → Nat) (i : Nat) (aF aL : Nat → Int32) : Prop := (bk i = 0 → aF i = nI (FF i) ∧ aL i = nI (LL i)) ∧ (bk i ≠ 0 → aF i = -1 ∧ aL i = -1)
section
variable {n0 p : Nat} {FF LL bk : Nat → Nat} {f_greatest f_count f_nodes f_olds f_entries f_pos f_result f_keptNodes f_parseNumber f_stale : Int32} {a_ruleLhs a_ruleLen a_ruleRhs a_cells a_token a_nodeRule a_nodeFirst a_nodeLast a_nodeBorn a_nodeState a_nodeLook a_nodeChild a_oldRule a_oldFirst a_oldLast a_oldBorn a_oldState a_oldLook a_entryRef a_entryState : Nat → Int32}
theorem wy_brk {post : SY → Prop} {i : Nat} (hi : i < 160) (h : post (f_greatest, f_count, f_nodes, f_olds, f_entries, f_pos, f_result, f_keptNodes, f_parseNumber, f_stale, a_ruleLhs, a_ruleLen, a_ruleRhs, a_cells, a_token, a_nodeRule, upd a_nodeFirst i (-1), upd a_nodeLast i (-1), a_nodeBorn, a_nodeState, a_nodeLook, a_nodeChild, a_oldRule, a_oldFirst, a_oldLast, a_oldBorn, a_oldState, a_oldLook, a_entryRef, a_entryState)) : wpY_breakNode post (f_greatest, f_count, f_nodes, f_olds, f_entries, f_pos, f_result, f_keptNodes, f_parseNumber, f_stale, a_ruleLhs, a_ruleLen, a_ruleRhs, a_cells, a_token, a_nodeRule, a_nodeFirst, a_nodeLast, a_nodeBorn, a_nodeState, a_nodeLook, a_nodeChild, a_oldRule, a_oldFirst, a_oldLast, a_oldBorn, a_oldState, a_oldLook, a_entryRef, a_entryState) (nI i) :=
  And.intro (pk_in i 160 hi) (nm_r (zz_up i rfl (by omega) rfl) (And.intro (pk_in i 160 hi) (nm_r (zz_up i rfl (by omega) rfl) h)))
theorem wy_i87 {post : Int32 → SY → Prop} (hn0 : n0 ≤ 124) (hp : p ≤ 16) (hb : ∀ i, i < n0 → bk i ≤ 1 ∧ (bk i = 0 → FF i < 16 ∧ LL i < 16 ∧ FF i ≤ LL i))
    (h : ∀ aF aL : Nat → Int32, (∀ j, j < n0 → zy_fl (ze_up p FF FF) (ze_up p FF LL) (ze_b p p FF LL bk) j aF aL) → post 1 (f_greatest, f_count, nI n0, f_olds, f_entries, f_pos, f_result, f_keptNodes, f_parseNumber, 1, a_ruleLhs, a_ruleLen, a_ruleRhs, a_cells, a_token, a_nodeRule, aF, aL, a_nodeBorn, a_nodeState, a_nodeLook, a_nodeChild, a_oldRule, a_oldFirst, a_oldLast, a_oldBorn, a_oldState, a_oldLook, a_entryRef, a_entryState)) :
    ∀ d i, i + d = n0 → ∀ n, d < n → ∀ aF aL : Nat → Int32, (∀ j, j < i → zy_fl (ze_up p FF FF) (ze_up p FF LL) (ze_b p p FF LL bk) j aF aL) → (∀ j, j < n0 → i ≤ j → zy_fl FF LL bk j aF aL) → wY_insert_87 post (nI p) n (nI i) f_greatest f_count (nI n0) f_olds f_entries f_pos f_result f_keptNodes f_parseNumber f_stale a_ruleLhs a_ruleLen a_ruleRhs a_cells a_token a_nodeRule aF aL a_nodeBorn a_nodeState a_nodeLook a_nodeChild a_oldRule a_oldFirst a_oldLast a_oldBorn a_oldState a_oldLook a_entryRef a_entryState := by
  intro d
  induction d with
  | zero =>
    intro i hi n hn aF aL h1 h2
    obtain ⟨n, rfl⟩ : ∃ m, n = m + 1 := ⟨n - 1, by omega⟩
    exact pk_le n0 i (fun _ => h aF aL (fun j hj => h1 j (by omega))) (fun h => by omega)
  | succ d ih =>
    intro i hi n hn aF aL h1 h2
    obtain ⟨n, rfl⟩ : ∃ m, n = m + 1 := ⟨n - 1, by omega⟩
    have hin : i < n0 := by omega
    obtain ⟨b1, b2⟩ := hb i hin
    have vi : vp_in (nI i) 160 := pk_in i 160 (by omega)
    have nxt : ∀ wF wL : Nat → Int32, (∀ j, j ≠ i → wF j = aF j ∧ wL j = aL j) → zy_fl (ze_up p FF FF) (ze_up p FF LL) (ze_b p p FF LL bk) i wF wL → wY_insert_87 post (nI p) n (nI (i + 1)) f_greatest f_count (nI n0) f_olds f_entries f_pos f_result f_keptNodes f_parseNumber f_stale a_ruleLhs a_ruleLen a_ruleRhs a_cells a_token a_nodeRule wF wL a_nodeBorn a_nodeState a_nodeLook a_nodeChild a_oldRule a_oldFirst a_oldLast a_oldBorn a_oldState a_oldLook a_entryRef a_entryState := by
      intro wF wL g1 g2
      refine ih (i + 1) (by omega) n (by omega) wF wL ?_ ?_
      · intro j hj
        by_cases hji : j = i
        · rw [hji]; exact g2
        · unfold zy_fl; rw [(g1 j hji).1, (g1 j hji).2]; exact h1 j (by omega)
      · intro j j1 j2
        unfold zy_fl; rw [(g1 j (by omega)).1, (g1 j (by omega)).2]; exact h2 j j1 (by omega)
    obtain ⟨f1, f2⟩ := h2 i hin (Nat.le_refl _)
    refine pk_le n0 i (fun h => by omega) (fun _ => And.intro vi ?_)
    by_cases hz : bk i = 0
    · obtain ⟨e1, e2⟩ := f1 hz
      obtain ⟨b3, b4, b5⟩ := b2 hz
      have eF : aF (nI i).toNatClampNeg = nI (FF i) := zz_at i rfl (by omega) e1
      have eL : aL (nI i).toNatClampNeg = nI (LL i) := zz_at i rfl (by omega) e2
      have k135 : (FF i < p → LL i < p) → wY_insert_135 post (wY_insert_87 post (nI p) n) (nI p) (nI i) f_greatest f_count (nI n0) f_olds f_entries f_pos f_result f_keptNodes f_parseNumber f_stale a_ruleLhs a_ruleLen a_ruleRhs a_cells a_token a_nodeRule aF aL a_nodeBorn a_nodeState a_nodeLook a_nodeChild a_oldRule a_oldFirst a_oldLast a_oldBorn a_oldState a_oldLook a_entryRef a_entryState := by
        intro hc
        refine And.intro vi ?_
        refine pk_lt (FF i) p (fun hlt => nm_r (nI_1 i) (nxt aF aL (fun _ _ => ⟨rfl, rfl⟩) ?_)) (fun hge => ?_) eF rfl
        · have := hc hlt
          have eb : ze_b p p FF LL bk i = bk i := by unfold ze_b; rw [if_neg (by omega)]
          have eu : ze_up p FF FF i = FF i := by unfold ze_up; rw [if_neg (by omega)]
          have ev : ze_up p FF LL i = LL i := by unfold ze_up; rw [if_neg (by omega)]
          unfold zy_fl; rw [eb, eu, ev]; exact ⟨f1, f2⟩
        · have eb : ze_b p p FF LL bk i = bk i := by unfold ze_b; rw [if_neg (by omega)]
          have eu : ze_up p FF FF i = FF i + 1 := by unfold ze_up; rw [if_pos hge]
          have ev : ze_up p FF LL i = LL i + 1 := by unfold ze_up; rw [if_pos hge]
          refine And.intro vi (And.intro vi (nm_r (zz_up (w := nI (FF i + 1)) i rfl (by omega) (by rw [eF, nI_1])) (And.intro vi (And.intro vi (nm_r (zz_up (w := nI (LL i + 1)) i rfl (by omega) (by rw [eL, nI_1])) (nm_r (nI_1 i) (nxt _ _ (fun j hj => ⟨pk_un hj, pk_un hj⟩) ?_)))))))
          unfold zy_fl; rw [eb, eu, ev, pk_us, pk_us]
          exact ⟨fun _ => ⟨rfl, rfl⟩, fun h => absurd hz h⟩
      refine br_t (by rw [eF]; exact nI_pos' (by omega)) (And.intro vi ?_)
      refine pk_le p (FF i) (fun hge => k135 (fun h => by omega)) (fun hlt => And.intro vi ?_) rfl eF
      refine pk_lt (LL i) p (fun hl => k135 (fun _ => hl)) (fun hge => ?_) eL rfl
      refine wy_brk (by omega) (nm_r (nI_1 i) (nxt _ _ (fun j hj => ⟨pk_un hj, pk_un hj⟩) ?_))
      have eb : ze_b p p FF LL bk i = 1 := by unfold ze_b; rw [if_pos ⟨hz, hlt, hge⟩]
      unfold zy_fl; rw [eb, pk_us, pk_us]
      exact ⟨fun h => absurd h (by decide), fun _ => ⟨rfl, rfl⟩⟩
    · obtain ⟨e1, e2⟩ := f2 hz
      have eF : aF (nI i).toNatClampNeg = -1 := zz_at i rfl (by omega) e1
      refine br_f (by rw [eF]; decide) (nm_r (nI_1 i) (nxt aF aL (fun _ _ => ⟨rfl, rfl⟩) ?_))
      have eb : ze_b p p FF LL bk i = bk i := by unfold ze_b; rw [if_neg (by omega)]
      unfold zy_fl; rw [eb]; exact ⟨fun h => absurd h hz, f2⟩
theorem wy_d58 {post : Int32 → SY → Prop} (hn0 : n0 ≤ 124) (hp : p ≤ 16) (hb : ∀ i, i < n0 → bk i ≤ 1 ∧ (bk i = 0 → FF i < 16 ∧ LL i < 16 ∧ FF i ≤ LL i))
    (h : ∀ aF aL : Nat → Int32, (∀ j, j < n0 → zy_fl (ze_dn p FF FF) (ze_dn p FF LL) (ze_b (p + 1) p FF LL bk) j aF aL) → post 1 (f_greatest, f_count, nI n0, f_olds, f_entries, f_pos, f_result, f_keptNodes, f_parseNumber, 1, a_ruleLhs, a_ruleLen, a_ruleRhs, a_cells, a_token, a_nodeRule, aF, aL, a_nodeBorn, a_nodeState, a_nodeLook, a_nodeChild, a_oldRule, a_oldFirst, a_oldLast, a_oldBorn, a_oldState, a_oldLook, a_entryRef, a_entryState)) :
    ∀ d i, i + d = n0 → ∀ n, d < n → ∀ aF aL : Nat → Int32, (∀ j, j < i → zy_fl (ze_dn p FF FF) (ze_dn p FF LL) (ze_b (p + 1) p FF LL bk) j aF aL) → (∀ j, j < n0 → i ≤ j → zy_fl FF LL bk j aF aL) → wY_delete_58 post (nI p) n (nI i) f_greatest f_count (nI n0) f_olds f_entries f_pos f_result f_keptNodes f_parseNumber f_stale a_ruleLhs a_ruleLen a_ruleRhs a_cells a_token a_nodeRule aF aL a_nodeBorn a_nodeState a_nodeLook a_nodeChild a_oldRule a_oldFirst a_oldLast a_oldBorn a_oldState a_oldLook a_entryRef a_entryState := by
  intro d
  induction d with
  | zero =>
    intro i hi n hn aF aL h1 h2
    obtain ⟨n, rfl⟩ : ∃ m, n = m + 1 := ⟨n - 1, by omega⟩
    exact pk_le n0 i (fun _ => h aF aL (fun j hj => h1 j (by omega))) (fun h => by omega)
  | succ d ih =>
    intro i hi n hn aF aL h1 h2
    obtain ⟨n, rfl⟩ : ∃ m, n = m + 1 := ⟨n - 1, by omega⟩
    have hin : i < n0 := by omega
    obtain ⟨b1, b2⟩ := hb i hin
    have vi : vp_in (nI i) 160 := pk_in i 160 (by omega)
    have nxt : ∀ wF wL : Nat → Int32, (∀ j, j ≠ i → wF j = aF j ∧ wL j = aL j) → zy_fl (ze_dn p FF FF) (ze_dn p FF LL) (ze_b (p + 1) p FF LL bk) i wF wL → wY_delete_58 post (nI p) n (nI (i + 1)) f_greatest f_count (nI n0) f_olds f_entries f_pos f_result f_keptNodes f_parseNumber f_stale a_ruleLhs a_ruleLen a_ruleRhs a_cells a_token a_nodeRule wF wL a_nodeBorn a_nodeState a_nodeLook a_nodeChild a_oldRule a_oldFirst a_oldLast a_oldBorn a_oldState a_oldLook a_entryRef a_entryState := by
      intro wF wL g1 g2
      refine ih (i + 1) (by omega) n (by omega) wF wL ?_ ?_
      · intro j hj
        by_cases hji : j = i
        · rw [hji]; exact g2
        · unfold zy_fl; rw [(g1 j hji).1, (g1 j hji).2]; exact h1 j (by omega)
      · intro j j1 j2
        unfold zy_fl; rw [(g1 j (by omega)).1, (g1 j (by omega)).2]; exact h2 j j1 (by omega)
    obtain ⟨f1, f2⟩ := h2 i hin (Nat.le_refl _)
    refine pk_le n0 i (fun h => by omega) (fun _ => And.intro vi ?_)
    by_cases hz : bk i = 0
    · obtain ⟨e1, e2⟩ := f1 hz
      obtain ⟨b3, b4, b5⟩ := b2 hz
      have eF : aF (nI i).toNatClampNeg = nI (FF i) := zz_at i rfl (by omega) e1
      have eL : aL (nI i).toNatClampNeg = nI (LL i) := zz_at i rfl (by omega) e2
      have k106 : (FF i ≤ p → LL i < p) → wY_delete_106 post (wY_delete_58 post (nI p) n) (nI p) (nI i) f_greatest f_count (nI n0) f_olds f_entries f_pos f_result f_keptNodes f_parseNumber f_stale a_ruleLhs a_ruleLen a_ruleRhs a_cells a_token a_nodeRule aF aL a_nodeBorn a_nodeState a_nodeLook a_nodeChild a_oldRule a_oldFirst a_oldLast a_oldBorn a_oldState a_oldLook a_entryRef a_entryState := by
        intro hc
        refine And.intro vi ?_
        refine pk_le (FF i) p (fun hlt => nm_r (nI_1 i) (nxt aF aL (fun _ _ => ⟨rfl, rfl⟩) ?_)) (fun hge => ?_) eF rfl
        · have := hc hlt
          have eb : ze_b (p + 1) p FF LL bk i = bk i := by unfold ze_b; rw [if_neg (by omega)]
          have eu : ze_dn p FF FF i = FF i := by unfold ze_dn; rw [if_neg (by omega)]
          have ev : ze_dn p FF LL i = LL i := by unfold ze_dn; rw [if_neg (by omega)]
          unfold zy_fl; rw [eb, eu, ev]; exact ⟨f1, f2⟩
        · have eb : ze_b (p + 1) p FF LL bk i = bk i := by unfold ze_b; rw [if_neg (by omega)]
          have eu : ze_dn p FF FF i = FF i - 1 := by unfold ze_dn; rw [if_pos hge]
          have ev : ze_dn p FF LL i = LL i - 1 := by unfold ze_dn; rw [if_pos hge]
          refine And.intro vi (And.intro vi (nm_r (zz_up (w := nI (FF i - 1)) i rfl (by omega) (by rw [eF, zz_s1 (by omega)])) (And.intro vi (And.intro vi (nm_r (zz_up (w := nI (LL i - 1)) i rfl (by omega) (by rw [eL, zz_s1 (by omega)])) (nm_r (nI_1 i) (nxt _ _ (fun j hj => ⟨pk_un hj, pk_un hj⟩) ?_)))))))
          unfold zy_fl; rw [eb, eu, ev, pk_us, pk_us]
          exact ⟨fun _ => ⟨rfl, rfl⟩, fun h => absurd hz h⟩
      refine br_t (by rw [eF]; exact nI_pos' (by omega)) (And.intro vi ?_)
      refine pk_lt p (FF i) (fun hge => k106 (fun h => by omega)) (fun hlt => And.intro vi ?_) rfl eF
      refine pk_lt (LL i) p (fun hl => k106 (fun _ => hl)) (fun hge => ?_) eL rfl
      refine wy_brk (by omega) (nm_r (nI_1 i) (nxt _ _ (fun j hj => ⟨pk_un hj, pk_un hj⟩) ?_))
      have eb : ze_b (p + 1) p FF LL bk i = 1 := by unfold ze_b; rw [if_pos ⟨hz, by omega, hge⟩]
      unfold zy_fl; rw [eb, pk_us, pk_us]
      exact ⟨fun h => absurd h (by decide), fun _ => ⟨rfl, rfl⟩⟩
    · obtain ⟨e1, e2⟩ := f2 hz
      have eF : aF (nI i).toNatClampNeg = -1 := zz_at i rfl (by omega) e1
      refine br_f (by rw [eF]; decide) (nm_r (nI_1 i) (nxt aF aL (fun _ _ => ⟨rfl, rfl⟩) ?_))
      have eb : ze_b (p + 1) p FF LL bk i = bk i := by unfold ze_b; rw [if_neg (by omega)]
      unfold zy_fl; rw [eb]; exact ⟨fun h => absurd h hz, f2⟩
theorem wy_r33 {post : Int32 → SY → Prop} (hn0 : n0 ≤ 124) (hp : p ≤ 16) (hb : ∀ i, i < n0 → bk i ≤ 1 ∧ (bk i = 0 → FF i < 16 ∧ LL i < 16 ∧ FF i ≤ LL i))
    (h : ∀ aF aL : Nat → Int32, (∀ j, j < n0 → zy_fl FF LL (ze_b (p + 1) p FF LL bk) j aF aL) → post 1 (f_greatest, f_count, nI n0, f_olds, f_entries, f_pos, f_result, f_keptNodes, f_parseNumber, 1, a_ruleLhs, a_ruleLen, a_ruleRhs, a_cells, a_token, a_nodeRule, aF, aL, a_nodeBorn, a_nodeState, a_nodeLook, a_nodeChild, a_oldRule, a_oldFirst, a_oldLast, a_oldBorn, a_oldState, a_oldLook, a_entryRef, a_entryState)) :
    ∀ d i, i + d = n0 → ∀ n, d < n → ∀ aF aL : Nat → Int32, (∀ j, j < i → zy_fl FF LL (ze_b (p + 1) p FF LL bk) j aF aL) → (∀ j, j < n0 → i ≤ j → zy_fl FF LL bk j aF aL) → wY_replace_33 post (nI p) n (nI i) f_greatest f_count (nI n0) f_olds f_entries f_pos f_result f_keptNodes f_parseNumber f_stale a_ruleLhs a_ruleLen a_ruleRhs a_cells a_token a_nodeRule aF aL a_nodeBorn a_nodeState a_nodeLook a_nodeChild a_oldRule a_oldFirst a_oldLast a_oldBorn a_oldState a_oldLook a_entryRef a_entryState := by
  intro d
  induction d with
  | zero =>
    intro i hi n hn aF aL h1 h2
    obtain ⟨n, rfl⟩ : ∃ m, n = m + 1 := ⟨n - 1, by omega⟩
    exact pk_le n0 i (fun _ => h aF aL (fun j hj => h1 j (by omega))) (fun h => by omega)
  | succ d ih =>
    intro i hi n hn aF aL h1 h2
    obtain ⟨n, rfl⟩ : ∃ m, n = m + 1 := ⟨n - 1, by omega⟩
    have hin : i < n0 := by omega
    obtain ⟨b1, b2⟩ := hb i hin
    have vi : vp_in (nI i) 160 := pk_in i 160 (by omega)
    have nxt : ∀ wF wL : Nat → Int32, (∀ j, j ≠ i → wF j = aF j ∧ wL j = aL j) → zy_fl FF LL (ze_b (p + 1) p FF LL bk) i wF wL → wY_replace_33 post (nI p) n (nI (i + 1)) f_greatest f_count (nI n0) f_olds f_entries f_pos f_result f_keptNodes f_parseNumber f_stale a_ruleLhs a_ruleLen a_ruleRhs a_cells a_token a_nodeRule wF wL a_nodeBorn a_nodeState a_nodeLook a_nodeChild a_oldRule a_oldFirst a_oldLast a_oldBorn a_oldState a_oldLook a_entryRef a_entryState := by
      intro wF wL g1 g2
      refine ih (i + 1) (by omega) n (by omega) wF wL ?_ ?_
      · intro j hj
        by_cases hji : j = i
        · rw [hji]; exact g2
        · unfold zy_fl; rw [(g1 j hji).1, (g1 j hji).2]; exact h1 j (by omega)
      · intro j j1 j2
        unfold zy_fl; rw [(g1 j (by omega)).1, (g1 j (by omega)).2]; exact h2 j j1 (by omega)
    obtain ⟨f1, f2⟩ := h2 i hin (Nat.le_refl _)
    refine pk_le n0 i (fun h => by omega) (fun _ => And.intro vi ?_)
    by_cases hz : bk i = 0
    · obtain ⟨e1, e2⟩ := f1 hz
      obtain ⟨b3, b4, b5⟩ := b2 hz
      have eF : aF (nI i).toNatClampNeg = nI (FF i) := zz_at i rfl (by omega) e1
      have eL : aL (nI i).toNatClampNeg = nI (LL i) := zz_at i rfl (by omega) e2
      refine br_f (by rw [eF]; exact nI_pos (by omega)) (And.intro vi ?_)
      refine pk_lt p (FF i) (fun hge => nm_r (nI_1 i) (nxt aF aL (fun _ _ => ⟨rfl, rfl⟩) ?_)) (fun hlt => And.intro vi ?_) rfl eF
      · have eb : ze_b (p + 1) p FF LL bk i = bk i := by unfold ze_b; rw [if_neg (by omega)]
        unfold zy_fl; rw [eb]; exact ⟨f1, f2⟩
      refine pk_lt (LL i) p (fun hl => nm_r (nI_1 i) (nxt aF aL (fun _ _ => ⟨rfl, rfl⟩) ?_)) (fun hge => ?_) eL rfl
      · have eb : ze_b (p + 1) p FF LL bk i = bk i := by unfold ze_b; rw [if_neg (by omega)]
        unfold zy_fl; rw [eb]; exact ⟨f1, f2⟩
      refine wy_brk (by omega) (nm_r (nI_1 i) (nxt _ _ (fun j hj => ⟨pk_un hj, pk_un hj⟩) ?_))
      have eb : ze_b (p + 1) p FF LL bk i = 1 := by unfold ze_b; rw [if_pos ⟨hz, by omega, hge⟩]
      unfold zy_fl; rw [eb, pk_us, pk_us]
      exact ⟨fun h => absurd h (by decide), fun _ => ⟨rfl, rfl⟩⟩
    · obtain ⟨e1, e2⟩ := f2 hz
      have eF : aF (nI i).toNatClampNeg = -1 := zz_at i rfl (by omega) e1
      refine br_t (by rw [eF]; decide) (nm_r (nI_1 i) (nxt aF aL (fun _ _ => ⟨rfl, rfl⟩) ?_))
      have eb : ze_b (p + 1) p FF LL bk i = bk i := by unfold ze_b; rw [if_neg (by omega)]
      unfold zy_fl; rw [eb]; exact ⟨fun h => absurd h hz, f2⟩
end
end
section
section
variable {tb : qm_T} {W0 W : qm_W} {c0 : qm_C} {n0 p kd : Nat} {FF LL bk : Nat → Nat} {a : Nat → Int32}
def ze_Wi (W : qm_W) (p kd : Nat) : qm_W := (fun q => if q < p then W.1 q else if q = p then kd else W.1 (q - 1), W.2 + 1)
def ze_Wd (W : qm_W) (p : Nat) : qm_W := (fun q => if q < p then W.1 q else W.1 (q + 1), W.2 - 1)
def ze_Wr (W : qm_W) (p kd : Nat) : qm_W := (fun q => if q = p then kd else W.1 q, W.2)
theorem ze_wi (hw : zr_w a W) (hm : W.2 < 16) (hp : p ≤ W.2) (hk : kd ≤ 6) : zr_w (upd (ze_in a W.2 p) p (nI kd)) (ze_Wi W p kd) := by
  refine ⟨hm, ?_⟩
  intro q hq
  have hq' : q < W.2 + 1 := hq
  show upd (ze_in a W.2 p) p (nI kd) q = nI (if q < p then W.1 q else if q = p then kd else W.1 (q - 1)) ∧ (if q < p then W.1 q else if q = p then kd else W.1 (q - 1)) ≤ 6
  by_cases h1 : q < p
  · rw [if_pos h1, pk_un (by omega)]
    unfold ze_in
    rw [if_neg (by omega)]
    exact hw.2 q (by omega)
  · rw [if_neg h1]
    by_cases h2 : q = p
    · rw [if_pos h2, h2, pk_us]; exact ⟨rfl, hk⟩
    · rw [if_neg h2, pk_un h2]
      unfold ze_in
      rw [if_pos (by omega)]
      exact hw.2 (q - 1) (by omega)
theorem ze_wd (hw : zr_w a W) (hp : p < W.2) : zr_w (ze_de a p (W.2 - 1)) (ze_Wd W p) := by
  have h16 := hw.1
  refine ⟨by show W.2 - 1 ≤ 16; omega, ?_⟩
  intro q hq
  have hq' : q < W.2 - 1 := hq
  show ze_de a p (W.2 - 1) q = nI (if q < p then W.1 q else W.1 (q + 1)) ∧ (if q < p then W.1 q else W.1 (q + 1)) ≤ 6
  unfold ze_de
  by_cases h1 : q < p
  · rw [if_pos h1, if_neg (by omega)]; exact hw.2 q (by omega)
  · rw [if_neg h1, if_pos (by omega)]; exact hw.2 (q + 1) (by omega)
theorem ze_wr (hw : zr_w a W) (hk : kd ≤ 6) : zr_w (upd a p (nI kd)) (ze_Wr W p kd) := by
  refine ⟨hw.1, ?_⟩
  intro q hq
  have hq' : q < W.2 := hq
  show upd a p (nI kd) q = nI (if q = p then kd else W.1 q) ∧ (if q = p then kd else W.1 q) ≤ 6
  by_cases h1 : q = p
  · rw [if_pos h1, h1, pk_us]; exact ⟨rfl, hk⟩
  · rw [if_neg h1, pk_un h1]; exact hw.2 q hq'
theorem ze_b0 {lo hi i : Nat} (h : ze_b lo hi FF LL bk i = 0) : bk i = 0 ∧ ¬ (FF i < lo ∧ hi ≤ LL i) := by
  unfold ze_b at h
  by_cases c : bk i = 0 ∧ FF i < lo ∧ hi ≤ LL i
  · rw [if_pos c] at h; omega
  · rw [if_neg c] at h; exact ⟨h, fun z => c ⟨h, z⟩⟩
theorem ze_b0' {lo hi i : Nat} (h : bk i = 0) (h' : ¬ (FF i < lo ∧ hi ≤ LL i)) : ze_b lo hi FF LL bk i = 0 := by
  unfold ze_b; rw [if_neg (fun z => h' z.2)]; exact h
theorem ze_b1 {lo hi i : Nat} (h : bk i ≤ 1) : ze_b lo hi FF LL bk i ≤ 1 := by
  unfold ze_b
  by_cases c : bk i = 0 ∧ FF i < lo ∧ hi ≤ LL i
  · rw [if_pos c]; omega
  · rw [if_neg c]; exact h
/-- what lies under a whole node -/
theorem zr_desc (J0 : qm_J tb W0 c0) (hn : n0 = qc_n c0) (hp : zr_p W0 W c0 n0 FF LL bk) {i j : Nat} (hi : i < n0) (hb : bk i = 0) (h1 : qc_B c0 i ≤ j) (h2 : j ≤ i) : bk j = 0 ∧ FF i ≤ FF j ∧ FF j ≤ LL j ∧ LL j ≤ LL i ∧ FF j + qc_F c0 i = FF i + qc_F c0 j := by
  obtain ⟨p1, p2, p3, p4, p5⟩ := hp.1 i hi hb
  obtain ⟨b1, b2⟩ := p5 j h1 h2
  obtain ⟨r1, r2, r3, _, _⟩ := hp.1 j (by omega) b1
  obtain ⟨q1, q2⟩ := J0.2.2.2.1 i (by omega) j h1 h2
  exact ⟨b1, by omega, r1, by omega, b2⟩
theorem ze_pi (J0 : qm_J tb W0 c0) (hn : n0 = qc_n c0) (hp : zr_p W0 W c0 n0 FF LL bk) : zr_p W0 (ze_Wi W p kd) c0 n0 (ze_up p FF FF) (ze_up p FF LL) (ze_b p p FF LL bk) := by
  have up1 : ∀ X i, p ≤ FF i → ze_up p FF X i = X i + 1 := fun X i h => if_pos h
  have up0 : ∀ X i, ¬ p ≤ FF i → ze_up p FF X i = X i := fun X i h => if_neg h
  refine ⟨?_, ?_⟩
  · intro i hi hb'
    obtain ⟨hb, hc⟩ := ze_b0 hb'
    obtain ⟨p1, p2, p3, p4, p5⟩ := hp.1 i hi hb
    have hdn := fun j => zr_desc (j := j) J0 hn hp hi hb
    by_cases hm : p ≤ FF i
    · rw [up1 FF i hm, up1 LL i hm]
      refine ⟨by omega, ?_, by omega, ?_, ?_⟩
      · show LL i + 1 < W.2 + 1; omega
      · intro q q' q1 q2 q3
        show (if q' < p then W.1 q' else if q' = p then kd else W.1 (q' - 1)) = W0.1 q
        rw [if_neg (by omega), if_neg (by omega)]
        exact p4 q (q' - 1) q1 q2 (by omega)
      · intro j j1 j2
        obtain ⟨t1, t2, t3, t4, t5⟩ := hdn j j1 j2
        rw [up1 FF j (by omega)]
        exact ⟨ze_b0' t1 (by omega), by omega⟩
    · rw [up0 FF i hm, up0 LL i hm]
      have hL : LL i < p := by omega
      refine ⟨p1, ?_, p3, ?_, ?_⟩
      · show LL i < W.2 + 1; omega
      · intro q q' q1 q2 q3
        show (if q' < p then W.1 q' else if q' = p then kd else W.1 (q' - 1)) = W0.1 q
        rw [if_pos (by omega)]
        exact p4 q q' q1 q2 q3
      · intro j j1 j2
        obtain ⟨t1, t2, t3, t4, t5⟩ := hdn j j1 j2
        rw [up0 FF j (by omega)]
        exact ⟨ze_b0' t1 (by omega), t5⟩
  · intro i j hi hj bi bj he
    obtain ⟨b1, c1⟩ := ze_b0 bi
    obtain ⟨b2, c2⟩ := ze_b0 bj
    have r1 := (hp.1 i hi b1).1
    have r2 := (hp.1 j hj b2).1
    refine hp.2 i j hi hj b1 b2 ?_
    by_cases m1 : p ≤ FF i
    · by_cases m2 : p ≤ FF j
      · rw [up1 FF i m1, up1 FF j m2] at he; omega
      · rw [up1 FF i m1, up0 FF j m2] at he; omega
    · by_cases m2 : p ≤ FF j
      · rw [up0 FF i m1, up1 FF j m2] at he; omega
      · rw [up0 FF i m1, up0 FF j m2] at he; exact he
theorem ze_pd (J0 : qm_J tb W0 c0) (hn : n0 = qc_n c0) (hp : zr_p W0 W c0 n0 FF LL bk) (hpW : p < W.2) : zr_p W0 (ze_Wd W p) c0 n0 (ze_dn p FF FF) (ze_dn p FF LL) (ze_b (p + 1) p FF LL bk) := by
  have dn1 : ∀ X i, p < FF i → ze_dn p FF X i = X i - 1 := fun X i h => if_pos h
  have dn0 : ∀ X i, ¬ p < FF i → ze_dn p FF X i = X i := fun X i h => if_neg h
  refine ⟨?_, ?_⟩
  · intro i hi hb'
    obtain ⟨hb, hc⟩ := ze_b0 hb'
    obtain ⟨p1, p2, p3, p4, p5⟩ := hp.1 i hi hb
    have hdn := fun j => zr_desc (j := j) J0 hn hp hi hb
    by_cases hm : p < FF i
    · rw [dn1 FF i hm, dn1 LL i hm]
      refine ⟨by omega, ?_, by omega, ?_, ?_⟩
      · show LL i - 1 < W.2 - 1; omega
      · intro q q' q1 q2 q3
        show (if q' < p then W.1 q' else W.1 (q' + 1)) = W0.1 q
        rw [if_neg (by omega)]
        exact p4 q (q' + 1) q1 q2 (by omega)
      · intro j j1 j2
        obtain ⟨t1, t2, t3, t4, t5⟩ := hdn j j1 j2
        rw [dn1 FF j (by omega)]
        exact ⟨ze_b0' t1 (by omega), by omega⟩
    · rw [dn0 FF i hm, dn0 LL i hm]
      have hL : LL i < p := by omega
      refine ⟨p1, ?_, p3, ?_, ?_⟩
      · show LL i < W.2 - 1; omega
      · intro q q' q1 q2 q3
        show (if q' < p then W.1 q' else W.1 (q' + 1)) = W0.1 q
        rw [if_pos (by omega)]
        exact p4 q q' q1 q2 q3
      · intro j j1 j2
        obtain ⟨t1, t2, t3, t4, t5⟩ := hdn j j1 j2
        rw [dn0 FF j (by omega)]
        exact ⟨ze_b0' t1 (by omega), t5⟩
  · intro i j hi hj bi bj he
    obtain ⟨b1, c1⟩ := ze_b0 bi
    obtain ⟨b2, c2⟩ := ze_b0 bj
    have r1 := (hp.1 i hi b1).1
    have r2 := (hp.1 j hj b2).1
    refine hp.2 i j hi hj b1 b2 ?_
    by_cases m1 : p < FF i
    · by_cases m2 : p < FF j
      · rw [dn1 FF i m1, dn1 FF j m2] at he; omega
      · rw [dn1 FF i m1, dn0 FF j m2] at he; omega
    · by_cases m2 : p < FF j
      · rw [dn0 FF i m1, dn1 FF j m2] at he; omega
      · rw [dn0 FF i m1, dn0 FF j m2] at he; exact he
theorem ze_pr (J0 : qm_J tb W0 c0) (hn : n0 = qc_n c0) (hp : zr_p W0 W c0 n0 FF LL bk) : zr_p W0 (ze_Wr W p kd) c0 n0 FF LL (ze_b (p + 1) p FF LL bk) := by
  refine ⟨?_, ?_⟩
  · intro i hi hb'
    obtain ⟨hb, hc⟩ := ze_b0 hb'
    obtain ⟨p1, p2, p3, p4, p5⟩ := hp.1 i hi hb
    refine ⟨p1, p2, p3, ?_, ?_⟩
    · intro q q' q1 q2 q3
      show (if q' = p then kd else W.1 q') = W0.1 q
      rw [if_neg (by omega)]
      exact p4 q q' q1 q2 q3
    · intro j j1 j2
      obtain ⟨t1, t2, t3, t4, t5⟩ := zr_desc J0 hn hp hi hb j1 j2
      exact ⟨ze_b0' t1 (by omega), t5⟩
  · intro i j hi hj bi bj he
    exact hp.2 i j hi hj (ze_b0 bi).1 (ze_b0 bj).1 he
end
section
variable {tb : qm_T} {c0 : qm_C} {n0 : Nat} {o FF LL bk FF' LL' bk' : Nat → Nat} {bn : Nat → Int32} {a_nodeRule a_nodeFirst a_nodeLast a_nodeBorn a_nodeState a_nodeLook a_nodeSize a_nodeBroken a_kids b_nodeRule b_nodeFirst b_nodeLast b_nodeBorn b_nodeState b_nodeLook v2 v3 v8 : Nat → Int32}
theorem ze_o (hO : zr_o tb c0 n0 o FF LL bk bn a_nodeRule a_nodeFirst a_nodeLast a_nodeBorn a_nodeState a_nodeLook a_nodeSize a_nodeBroken a_kids) (h8 : ∀ i, i < n0 → v8 (o i) = nI (bk' i)) (h23 : ∀ i, i < n0 → bk' i = 0 → v2 (o i) = nI (FF' i) ∧ v3 (o i) = nI (LL' i)) : zr_o tb c0 n0 o FF' LL' bk' bn a_nodeRule v2 v3 a_nodeBorn a_nodeState a_nodeLook a_nodeSize v8 a_kids := by
  intro i hi
  obtain ⟨s1, s2, s3, s4, s5, s6, s7, s8, s9⟩ := hO i hi
  exact ⟨s1, s2, s3, s4, s5, s6, h8 i hi, h23 i hi, s9⟩
theorem ze_y (hY : zr_y c0 n0 FF LL bk bn b_nodeRule b_nodeFirst b_nodeLast b_nodeBorn b_nodeState b_nodeLook) (h : ∀ i, i < n0 → zy_fl FF' LL' bk' i v2 v3) : zr_y c0 n0 FF' LL' bk' bn b_nodeRule v2 v3 b_nodeBorn b_nodeState b_nodeLook := by
  intro i hi
  obtain ⟨y1, y2, y3, y4, _, _⟩ := hY i hi
  exact ⟨y1, y2, y3, y4, (h i hi).1, (h i hi).2⟩
end
end
section
section
variable {p m : Nat} {x2 : Int32} {a : Nat → Int32} {f_tokenTotal f_tokenLimit f_freeCount f_storedCount f_newCount f_depth f_pos f_stale f_lastVerdict f_keptCount f_parseNumber : Int32} {a_ruleLhs a_ruleLen a_ruleRhs a_cells a_tokens a_nodeRule a_nodeFirst a_nodeLast a_nodeBorn a_nodeState a_nodeLook a_nodeSize a_numberOf a_nodeBroken a_nodeReused a_kids a_freeSlots a_order a_newOrder a_headAt a_entryNode a_entryFirst a_entryState : Nat → Int32}
theorem wx_i43 {post : Int32 → SX → Prop} (hm : m < 16) (hend : ∀ n, wX_insert_43 post (nI p) x2 f_tokenTotal f_tokenLimit f_freeCount f_storedCount f_newCount f_depth f_pos f_stale f_lastVerdict f_keptCount f_parseNumber (n + 1) (nI p) a_ruleLhs a_ruleLen a_ruleRhs a_cells (ze_in a m p) a_nodeRule a_nodeFirst a_nodeLast a_nodeBorn a_nodeState a_nodeLook a_nodeSize a_numberOf a_nodeBroken a_nodeReused a_kids a_freeSlots a_order a_newOrder a_headAt a_entryNode a_entryFirst a_entryState) : ∀ d i, i = p + d → i ≤ m → ∀ n, d < n → wX_insert_43 post (nI p) x2 f_tokenTotal f_tokenLimit f_freeCount f_storedCount f_newCount f_depth f_pos f_stale f_lastVerdict f_keptCount f_parseNumber n (nI i) a_ruleLhs a_ruleLen a_ruleRhs a_cells (ze_in a m i) a_nodeRule a_nodeFirst a_nodeLast a_nodeBorn a_nodeState a_nodeLook a_nodeSize a_numberOf a_nodeBroken a_nodeReused a_kids a_freeSlots a_order a_newOrder a_headAt a_entryNode a_entryFirst a_entryState := by
  intro d
  induction d with
  | zero =>
    intro i hi him n hn
    obtain ⟨n, rfl⟩ : ∃ m, n = m + 1 := ⟨n - 1, by omega⟩
    rw [show i = p by omega]
    exact hend n
  | succ d ih =>
    intro i hi him n hn
    obtain ⟨n, rfl⟩ : ∃ m, n = m + 1 := ⟨n - 1, by omega⟩
    obtain ⟨i, rfl⟩ : ∃ j, i = j + 1 := ⟨i - 1, by omega⟩
    have nxt := ih i (by omega) (by omega) n (by omega)
    refine pk_le (i + 1) p (fun h => by omega) (fun _ => ?_)
    refine And.intro (pk_in i 16 (by omega) (nI_pred i)) (And.intro (pk_in (i + 1) 16 (by omega)) (nm_r (e' := ze_in a m i) ?_ (nm_r (pk_m1 i) nxt)))
    rw [zz_up (w := ze_in a m (i + 1) i) (i + 1) rfl (by omega) (zz_at i (nI_pred i) (by omega) rfl)]
    exact ze_in1 a (by omega)
theorem wx_d16 {post : Int32 → SX → Prop} (hm : m ≤ 16) (hp : p < m) (hend : ∀ n, wX_delete_16 post (nI p) (nI m) f_tokenLimit f_freeCount f_storedCount f_newCount f_depth f_pos f_stale f_lastVerdict f_keptCount f_parseNumber (n + 1) (nI (m - 1)) a_ruleLhs a_ruleLen a_ruleRhs a_cells (ze_de a p (m - 1)) a_nodeRule a_nodeFirst a_nodeLast a_nodeBorn a_nodeState a_nodeLook a_nodeSize a_numberOf a_nodeBroken a_nodeReused a_kids a_freeSlots a_order a_newOrder a_headAt a_entryNode a_entryFirst a_entryState) : ∀ d i, i + d = m - 1 → p ≤ i → ∀ n, d < n → wX_delete_16 post (nI p) (nI m) f_tokenLimit f_freeCount f_storedCount f_newCount f_depth f_pos f_stale f_lastVerdict f_keptCount f_parseNumber n (nI i) a_ruleLhs a_ruleLen a_ruleRhs a_cells (ze_de a p i) a_nodeRule a_nodeFirst a_nodeLast a_nodeBorn a_nodeState a_nodeLook a_nodeSize a_numberOf a_nodeBroken a_nodeReused a_kids a_freeSlots a_order a_newOrder a_headAt a_entryNode a_entryFirst a_entryState := by
  intro d
  induction d with
  | zero =>
    intro i hi him n hn
    obtain ⟨n, rfl⟩ : ∃ m, n = m + 1 := ⟨n - 1, by omega⟩
    rw [show i = m - 1 by omega]
    exact hend n
  | succ d ih =>
    intro i hi him n hn
    obtain ⟨n, rfl⟩ : ∃ m, n = m + 1 := ⟨n - 1, by omega⟩
    have nxt := ih (i + 1) (by omega) (by omega) n (by omega)
    refine pk_le (m - 1) i (fun h => by omega) (fun _ => ?_) (zz_s1 (by omega)) rfl
    refine And.intro (pk_in (i + 1) 16 (by omega) (nI_1 i)) (And.intro (pk_in i 16 (by omega)) (nm_r (e' := ze_de a p (i + 1)) ?_ (nm_r (nI_1 i) nxt)))
    rw [zz_up (w := ze_de a p i (i + 1)) i rfl (by omega) (zz_at (i + 1) (nI_1 i) (by omega) rfl)]
    exact ze_de1 a him
end
section
variable {p m : Nat} {x2 : Int32} {a : Nat → Int32} {f_greatest f_count f_nodes f_olds f_entries f_pos f_result f_keptNodes f_parseNumber f_stale : Int32} {a_ruleLhs a_ruleLen a_ruleRhs a_cells a_token a_nodeRule a_nodeFirst a_nodeLast a_nodeBorn a_nodeState a_nodeLook a_nodeChild a_oldRule a_oldFirst a_oldLast a_oldBorn a_oldState a_oldLook a_entryRef a_entryState : Nat → Int32}
theorem wy_i43 {post : Int32 → SY → Prop} (hm : m < 16) (hend : ∀ n, wY_insert_43 post (nI p) x2 f_greatest f_count f_nodes f_olds f_entries f_pos f_result f_keptNodes f_parseNumber f_stale (n + 1) (nI p) a_ruleLhs a_ruleLen a_ruleRhs a_cells (ze_in a m p) a_nodeRule a_nodeFirst a_nodeLast a_nodeBorn a_nodeState a_nodeLook a_nodeChild a_oldRule a_oldFirst a_oldLast a_oldBorn a_oldState a_oldLook a_entryRef a_entryState) : ∀ d i, i = p + d → i ≤ m → ∀ n, d < n → wY_insert_43 post (nI p) x2 f_greatest f_count f_nodes f_olds f_entries f_pos f_result f_keptNodes f_parseNumber f_stale n (nI i) a_ruleLhs a_ruleLen a_ruleRhs a_cells (ze_in a m i) a_nodeRule a_nodeFirst a_nodeLast a_nodeBorn a_nodeState a_nodeLook a_nodeChild a_oldRule a_oldFirst a_oldLast a_oldBorn a_oldState a_oldLook a_entryRef a_entryState := by
  intro d
  induction d with
  | zero =>
    intro i hi him n hn
    obtain ⟨n, rfl⟩ : ∃ m, n = m + 1 := ⟨n - 1, by omega⟩
    rw [show i = p by omega]
    exact hend n
  | succ d ih =>
    intro i hi him n hn
    obtain ⟨n, rfl⟩ : ∃ m, n = m + 1 := ⟨n - 1, by omega⟩
    obtain ⟨i, rfl⟩ : ∃ j, i = j + 1 := ⟨i - 1, by omega⟩
    have nxt := ih i (by omega) (by omega) n (by omega)
    refine pk_le (i + 1) p (fun h => by omega) (fun _ => ?_)
    refine And.intro (pk_in i 16 (by omega) (nI_pred i)) (And.intro (pk_in (i + 1) 16 (by omega)) (nm_r (e' := ze_in a m i) ?_ (nm_r (pk_m1 i) nxt)))
    rw [zz_up (w := ze_in a m (i + 1) i) (i + 1) rfl (by omega) (zz_at i (nI_pred i) (by omega) rfl)]
    exact ze_in1 a (by omega)
theorem wy_d16 {post : Int32 → SY → Prop} (hm : m ≤ 16) (hp : p < m) (hend : ∀ n, wY_delete_16 post (nI p) f_greatest (nI m) f_nodes f_olds f_entries f_pos f_result f_keptNodes f_parseNumber f_stale (n + 1) (nI (m - 1)) a_ruleLhs a_ruleLen a_ruleRhs a_cells (ze_de a p (m - 1)) a_nodeRule a_nodeFirst a_nodeLast a_nodeBorn a_nodeState a_nodeLook a_nodeChild a_oldRule a_oldFirst a_oldLast a_oldBorn a_oldState a_oldLook a_entryRef a_entryState) : ∀ d i, i + d = m - 1 → p ≤ i → ∀ n, d < n → wY_delete_16 post (nI p) f_greatest (nI m) f_nodes f_olds f_entries f_pos f_result f_keptNodes f_parseNumber f_stale n (nI i) a_ruleLhs a_ruleLen a_ruleRhs a_cells (ze_de a p i) a_nodeRule a_nodeFirst a_nodeLast a_nodeBorn a_nodeState a_nodeLook a_nodeChild a_oldRule a_oldFirst a_oldLast a_oldBorn a_oldState a_oldLook a_entryRef a_entryState := by
  intro d
  induction d with
  | zero =>
    intro i hi him n hn
    obtain ⟨n, rfl⟩ : ∃ m, n = m + 1 := ⟨n - 1, by omega⟩
    rw [show i = m - 1 by omega]
    exact hend n
  | succ d ih =>
    intro i hi him n hn
    obtain ⟨n, rfl⟩ : ∃ m, n = m + 1 := ⟨n - 1, by omega⟩
    have nxt := ih (i + 1) (by omega) (by omega) n (by omega)
    refine pk_le (m - 1) i (fun h => by omega) (fun _ => ?_) (zz_s1 (by omega)) rfl
    refine And.intro (pk_in (i + 1) 16 (by omega) (nI_1 i)) (And.intro (pk_in i 16 (by omega)) (nm_r (e' := ze_de a p (i + 1)) ?_ (nm_r (nI_1 i) nxt)))
    rw [zz_up (w := ze_de a p i (i + 1)) i rfl (by omega) (zz_at (i + 1) (nI_1 i) (by omega) rfl)]
    exact ze_de1 a him
end
theorem ze_x1 {p f : Nat} (hp : p ≤ 16) (hf : f < 16) : nI p - 1 < nI f ↔ p ≤ f := by
  rw [Int32.lt_iff_toInt_lt, nI_toInt (n := f) (by omega)]
  have h1 : (nI p - 1).toInt = (p : Int) - 1 := by
    have := pk_sub_toInt (a := p) (b := 1) (by omega) (by omega)
    exact this
  rw [h1]
  omega
theorem zi_bb {tb : qm_T} {W0 W : qm_W} {c0 : qm_C} {n0 : Nat} {FF LL bk : Nat → Nat} (h16 : W.2 ≤ 16) (hp : zr_p W0 W c0 n0 FF LL bk) (hb : ∀ i, i < n0 → bk i ≤ 1) : (∀ i, i < n0 → bk i ≤ 1 ∧ (bk i = 0 → FF i < 16 ∧ LL i < 16)) ∧ (∀ i, i < n0 → bk i ≤ 1 ∧ (bk i = 0 → FF i < 16 ∧ LL i < 16 ∧ FF i ≤ LL i)) := by
  refine ⟨fun i hi => ⟨hb i hi, fun hz => ?_⟩, fun i hi => ⟨hb i hi, fun hz => ?_⟩⟩
  · obtain ⟨a1, a2, _⟩ := hp.1 i hi hz
    exact ⟨by omega, by omega⟩
  · obtain ⟨a1, a2, _⟩ := hp.1 i hi hz
    exact ⟨by omega, by omega, a1⟩
theorem i_vc_insert {k : Nat} {u : SX} {v : SY} (I : i_Rel k u v) (hk : k + 5 ≤ 2562) (v1 : Int32) (v2 : Int32) : wpX_insert (fun r u' => wpY_insert (fun r' v' => r' = r ∧ i_Rel (k + 5) u' v') v v1 v2) u v1 v2 := by
  refine zz_el (P := fun u v => wpX_insert (fun r u' => wpY_insert (fun r' v' => r' = r ∧ i_Rel (k + 5) u' v') v v1 v2) u v1 v2) ?_ I
  intro f_newCount f_depth f_pos f_stale f_lastVerdict f_keptCount f_parseNumber a_ruleLhs a_ruleLen a_ruleRhs a_cells a_tokens a_nodeRule a_nodeFirst a_nodeLast a_nodeBorn a_nodeState a_nodeLook a_nodeSize a_numberOf a_nodeBroken a_nodeReused a_kids a_freeSlots a_order a_newOrder a_headAt a_entryNode a_entryFirst a_entryState g_olds g_entries g_pos g_result g_keptNodes b_nodeRule b_nodeFirst b_nodeLast b_nodeBorn b_nodeState b_nodeLook b_nodeChild b_oldRule b_oldFirst b_oldLast b_oldBorn b_oldState b_oldLook b_entryRef b_entryState tb W0 W K0 n0 ml o fs FF LL bk bn hG
  have hG' := hG
  obtain ⟨ht, hw, hw0, hG0, hn, hml, hS, hp, hb, hO, hO2, hY, hst, hN⟩ := hG
  have J0 := qm_Jk ht.1 hw0 K0 hG0
  have hn0 : n0 ≤ 124 := by rw [hn]; exact (qj_cnt ht.1 hw0 J0).2.2.2.1
  obtain ⟨hm1, hm2⟩ := hml
  by_cases g0 : v1 < 0
  · exact br_t g0 (br_t g0 ⟨rfl, zz_mk hG'⟩)
  by_cases g1 : nI W.2 < v1
  · exact br_f g0 (br_t g1 (br_f g0 (br_t g1 ⟨rfl, zz_mk hG'⟩)))
  by_cases g2 : v2 < 0
  · exact br_f g0 (br_f g1 (br_t g2 (br_f g0 (br_f g1 (br_t g2 ⟨rfl, zz_mk hG'⟩)))))
  by_cases g3 : v2 ≤ 6
  · refine br_f g0 (br_f g1 (br_f g2 (br_t g3 ?_)))
    obtain ⟨p, hp31, rfl⟩ := nI_of g0
    rw [nI_ltI (by omega) hp31] at g1
    obtain ⟨kd, kd1, rfl⟩ := nI_of2 (n := 6) (by decide) g2 g3
    have g1' : ¬ nI W.2 < nI p := by rw [nI_ltI (by omega) hp31]; exact g1
    refine pk_lt W.2 ml (fun hlt => ?_) (fun hge => ?_)
    · obtain ⟨bb1, bb2⟩ := zi_bb (tb := tb) hw.1 hp hb
      refine ⟨W.2 - p + 1, ?_⟩
      have e0 := ze_in0 a_tokens W.2
      have HX := wx_i43 (p := p) (m := W.2) (x2 := nI kd) (a := a_tokens) (f_tokenTotal := nI W.2) (f_tokenLimit := nI ml) (f_freeCount := nI (248 - n0)) (f_storedCount := nI n0) (f_newCount := f_newCount) (f_depth := f_depth) (f_pos := f_pos) (f_stale := f_stale) (f_lastVerdict := f_lastVerdict) (f_keptCount := f_keptCount) (f_parseNumber := f_parseNumber) (a_ruleLhs := a_ruleLhs) (a_ruleLen := a_ruleLen) (a_ruleRhs := a_ruleRhs) (a_cells := a_cells) (a_nodeRule := a_nodeRule) (a_nodeFirst := a_nodeFirst) (a_nodeLast := a_nodeLast) (a_nodeBorn := a_nodeBorn) (a_nodeState := a_nodeState) (a_nodeLook := a_nodeLook) (a_nodeSize := a_nodeSize) (a_numberOf := a_numberOf) (a_nodeBroken := a_nodeBroken) (a_nodeReused := a_nodeReused) (a_kids := a_kids) (a_freeSlots := a_freeSlots) (a_order := a_order) (a_newOrder := a_newOrder) (a_headAt := a_headAt) (a_entryNode := a_entryNode) (a_entryFirst := a_entryFirst) (a_entryState := a_entryState) (post := fun r u' => wpY_insert (fun r' v' => r' = r ∧ i_Rel (k + 5) u' v') (nI ml, nI W.2, nI n0, g_olds, g_entries, g_pos, g_result, g_keptNodes, f_parseNumber, f_stale, a_ruleLhs, a_ruleLen, a_ruleRhs, a_cells, a_tokens, b_nodeRule, b_nodeFirst, b_nodeLast, b_nodeBorn, b_nodeState, b_nodeLook, b_nodeChild, b_oldRule, b_oldFirst, b_oldLast, b_oldBorn, b_oldState, b_oldLook, b_entryRef, b_entryState) (nI p) (nI kd)) (by omega) ?_ (W.2 - p) W.2 (by omega) (Nat.le_refl _) (W.2 - p + 1) (by omega)
      · rw [e0] at HX; exact HX
      · intro n
        refine pk_le p p (fun _ => ?_) (fun h => by omega)
        refine And.intro (pk_in p 16 (by omega)) (nm_r (zz_up p rfl (by omega) rfl) (nm_r (nI_1 W.2) ?_))
        refine wx_brk (lo := p) (fun f hf => ze_x1 (by omega) hf) (by omega) hn0 hS.1 hS.2.1 hO bb1 (fun w8 h8 => ?_)
        refine wx_mov (fr := p) (FF := FF) (LL := LL) (bk := ze_b p p FF LL bk) (FF' := ze_up p FF FF) (LL' := ze_up p FF LL) (by omega) hn0 hS.1 (fun i hi => ⟨hS.2.1 i hi, (hO i hi).1⟩) (fun i hi => ⟨h8 i hi, ze_b1 (hb i hi)⟩) (fun i hi hz => ?_) (fun i hi hz => ?_) (fun w2 w3 h23 => ?_)
        · have hz' := (ze_b0 hz).1
          have q := (hO i hi).2.2.2.2.2.2.2.1 hz'
          exact ⟨q.1, q.2, ((bb1 i hi).2 hz').1⟩
        · refine ⟨fun hge => ?_, fun hlt' => ?_⟩
          · unfold ze_up; rw [if_pos hge, if_pos hge]; exact ⟨nI_1 _, nI_1 _⟩
          · unfold ze_up; rw [if_neg (by omega), if_neg (by omega)]; exact ⟨rfl, rfl⟩
        · refine br_f g0 (br_f g1' (br_f g2 (br_t g3 ?_)))
          refine pk_eq W.2 ml (fun h => by omega) (fun _ => ⟨W.2 - p + 1, ?_⟩)
          have HY := wy_i43 (p := p) (m := W.2) (x2 := nI kd) (a := a_tokens) (f_greatest := nI ml) (f_count := nI W.2) (f_nodes := nI n0) (f_olds := g_olds) (f_entries := g_entries) (f_pos := g_pos) (f_result := g_result) (f_keptNodes := g_keptNodes) (f_parseNumber := f_parseNumber) (f_stale := f_stale) (a_ruleLhs := a_ruleLhs) (a_ruleLen := a_ruleLen) (a_ruleRhs := a_ruleRhs) (a_cells := a_cells) (a_nodeRule := b_nodeRule) (a_nodeFirst := b_nodeFirst) (a_nodeLast := b_nodeLast) (a_nodeBorn := b_nodeBorn) (a_nodeState := b_nodeState) (a_nodeLook := b_nodeLook) (a_nodeChild := b_nodeChild) (a_oldRule := b_oldRule) (a_oldFirst := b_oldFirst) (a_oldLast := b_oldLast) (a_oldBorn := b_oldBorn) (a_oldState := b_oldState) (a_oldLook := b_oldLook) (a_entryRef := b_entryRef) (a_entryState := b_entryState) (post := fun r' v' => r' = 1 ∧ i_Rel (k + 5) (nI (W.2 + 1), nI ml, nI (248 - n0), nI n0, f_newCount, f_depth, f_pos, 1, f_lastVerdict, f_keptCount, f_parseNumber, a_ruleLhs, a_ruleLen, a_ruleRhs, a_cells, upd (ze_in a_tokens W.2 p) p (nI kd), a_nodeRule, w2, w3, a_nodeBorn, a_nodeState, a_nodeLook, a_nodeSize, a_numberOf, w8, a_nodeReused, a_kids, a_freeSlots, a_order, a_newOrder, a_headAt, a_entryNode, a_entryFirst, a_entryState) v') (by omega) ?_ (W.2 - p) W.2 (by omega) (Nat.le_refl _) (W.2 - p + 1) (by omega)
          · rw [e0] at HY; exact HY
          · intro n'
            refine pk_le p p (fun _ => ?_) (fun h => by omega)
            refine And.intro (pk_in p 16 (by omega)) (nm_r (zz_up p rfl (by omega) rfl) (nm_r (nI_1 W.2) ⟨n0 + 1, ?_⟩))
            refine wy_i87 (FF := FF) (LL := LL) (bk := bk) hn0 (by omega) bb2 (fun aF aL hfl => ?_) n0 0 (by omega) _ (by omega) _ _ (fun j hj => absurd hj (Nat.not_lt_zero _)) (fun j hj _ => ⟨(hY j hj).2.2.2.2.1, (hY j hj).2.2.2.2.2⟩)
            refine ⟨rfl, ?_⟩
            refine zz_mk (tb := tb) (W0 := W0) (W := ze_Wi W p kd) (K0 := K0) (n0 := n0) (ml := ml) (o := o) (fs := fs) (FF := ze_up p FF FF) (LL := ze_up p FF LL) (bk := ze_b p p FF LL bk) (bn := bn) ?_
            exact ⟨ht, ze_wi hw (by omega) (by omega) kd1, hw0, hG0, hn, ⟨hlt, hm2⟩, hS, ze_pi J0 hn hp, fun i hi => ze_b1 (hb i hi), ze_o hO h8 h23, hO2, ze_y hY hfl, Or.inr rfl, fun h => absurd h (by decide)⟩
    · refine br_f g0 (br_f g1' (br_f g2 (br_t g3 ?_)))
      exact pk_eq W.2 ml (fun _ => ⟨rfl, zz_mk hG'⟩) (fun h => by omega)
  · exact br_f g0 (br_f g1 (br_f g2 (br_f g3 (br_f g0 (br_f g1 (br_f g2 (br_f g3 ⟨rfl, zz_mk hG'⟩)))))))
end
section
theorem i_vc_delete {k : Nat} {u : SX} {v : SY} (I : i_Rel k u v) (hk : k + 5 ≤ 2562) (v1 : Int32) : wpX_delete (fun r u' => wpY_delete (fun r' v' => r' = r ∧ i_Rel (k + 5) u' v') v v1) u v1 := by
  refine zz_el (P := fun u v => wpX_delete (fun r u' => wpY_delete (fun r' v' => r' = r ∧ i_Rel (k + 5) u' v') v v1) u v1) ?_ I
  intro f_newCount f_depth f_pos f_stale f_lastVerdict f_keptCount f_parseNumber a_ruleLhs a_ruleLen a_ruleRhs a_cells a_tokens a_nodeRule a_nodeFirst a_nodeLast a_nodeBorn a_nodeState a_nodeLook a_nodeSize a_numberOf a_nodeBroken a_nodeReused a_kids a_freeSlots a_order a_newOrder a_headAt a_entryNode a_entryFirst a_entryState g_olds g_entries g_pos g_result g_keptNodes b_nodeRule b_nodeFirst b_nodeLast b_nodeBorn b_nodeState b_nodeLook b_nodeChild b_oldRule b_oldFirst b_oldLast b_oldBorn b_oldState b_oldLook b_entryRef b_entryState tb W0 W K0 n0 ml o fs FF LL bk bn hG
  have hG' := hG
  obtain ⟨ht, hw, hw0, hG0, hn, hml, hS, hp, hb, hO, hO2, hY, hst, hN⟩ := hG
  have J0 := qm_Jk ht.1 hw0 K0 hG0
  have hn0 : n0 ≤ 124 := by rw [hn]; exact (qj_cnt ht.1 hw0 J0).2.2.2.1
  obtain ⟨hm1, hm2⟩ := hml
  by_cases g0 : v1 < 0
  · exact br_t g0 (br_t g0 ⟨rfl, zz_mk hG'⟩)
  by_cases g1 : v1 < nI W.2
  · obtain ⟨p, p1, rfl⟩ := zz_lt g0 g1 (by omega)
    refine br_f g0 (br_t g1 ⟨W.2 - p + 1, ?_⟩)
    obtain ⟨bb1, bb2⟩ := zi_bb (tb := tb) hw.1 hp hb
    have e0 := ze_de0 a_tokens p
    have HX := wx_d16 (p := p) (m := W.2) (a := a_tokens) (f_tokenLimit := nI ml) (f_freeCount := nI (248 - n0)) (f_storedCount := nI n0) (f_newCount := f_newCount) (f_depth := f_depth) (f_pos := f_pos) (f_stale := f_stale) (f_lastVerdict := f_lastVerdict) (f_keptCount := f_keptCount) (f_parseNumber := f_parseNumber) (a_ruleLhs := a_ruleLhs) (a_ruleLen := a_ruleLen) (a_ruleRhs := a_ruleRhs) (a_cells := a_cells) (a_nodeRule := a_nodeRule) (a_nodeFirst := a_nodeFirst) (a_nodeLast := a_nodeLast) (a_nodeBorn := a_nodeBorn) (a_nodeState := a_nodeState) (a_nodeLook := a_nodeLook) (a_nodeSize := a_nodeSize) (a_numberOf := a_numberOf) (a_nodeBroken := a_nodeBroken) (a_nodeReused := a_nodeReused) (a_kids := a_kids) (a_freeSlots := a_freeSlots) (a_order := a_order) (a_newOrder := a_newOrder) (a_headAt := a_headAt) (a_entryNode := a_entryNode) (a_entryFirst := a_entryFirst) (a_entryState := a_entryState) (post := fun r u' => wpY_delete (fun r' v' => r' = r ∧ i_Rel (k + 5) u' v') (nI ml, nI W.2, nI n0, g_olds, g_entries, g_pos, g_result, g_keptNodes, f_parseNumber, f_stale, a_ruleLhs, a_ruleLen, a_ruleRhs, a_cells, a_tokens, b_nodeRule, b_nodeFirst, b_nodeLast, b_nodeBorn, b_nodeState, b_nodeLook, b_nodeChild, b_oldRule, b_oldFirst, b_oldLast, b_oldBorn, b_oldState, b_oldLook, b_entryRef, b_entryState) (nI p)) (by omega) p1 ?_ (W.2 - 1 - p) p (by omega) (Nat.le_refl _) (W.2 - p + 1) (by omega)
    · rw [e0] at HX; exact HX
    · intro n
      refine pk_le (W.2 - 1) (W.2 - 1) (fun _ => ?_) (fun h => by omega) (zz_s1 (by omega)) rfl
      refine nm_r (zz_s1 (by omega)) ?_
      refine wx_brk (lo := p + 1) (fun f hf => ?_) (by omega) hn0 hS.1 hS.2.1 hO bb1 (fun w8 h8 => ?_)
      · rw [nI_ltI (by omega) (by omega)]; omega
      rw [nI_1]
      refine wx_mov (fr := p + 1) (FF := FF) (LL := LL) (bk := ze_b (p + 1) p FF LL bk) (FF' := ze_dn p FF FF) (LL' := ze_dn p FF LL) (by omega) hn0 hS.1 (fun i hi => ⟨hS.2.1 i hi, (hO i hi).1⟩) (fun i hi => ⟨h8 i hi, ze_b1 (hb i hi)⟩) (fun i hi hz => ?_) (fun i hi hz => ?_) (fun w2 w3 h23 => ?_)
      · have hz' := (ze_b0 hz).1
        have q := (hO i hi).2.2.2.2.2.2.2.1 hz'
        exact ⟨q.1, q.2, ((bb1 i hi).2 hz').1⟩
      · have hz' := (ze_b0 hz).1
        have hle := (hp.1 i hi hz').1
        refine ⟨fun hge => ?_, fun hlt' => ?_⟩
        · unfold ze_dn; rw [if_pos (by omega), if_pos (by omega)]; exact ⟨sb_m1 (by omega), sb_m1 (by omega)⟩
        · unfold ze_dn; rw [if_neg (by omega), if_neg (by omega)]; exact ⟨rfl, rfl⟩
      · refine br_f g0 (br_t g1 ⟨W.2 - p + 1, ?_⟩)
        have HY := wy_d16 (p := p) (m := W.2) (a := a_tokens) (f_greatest := nI ml) (f_nodes := nI n0) (f_olds := g_olds) (f_entries := g_entries) (f_pos := g_pos) (f_result := g_result) (f_keptNodes := g_keptNodes) (f_parseNumber := f_parseNumber) (f_stale := f_stale) (a_ruleLhs := a_ruleLhs) (a_ruleLen := a_ruleLen) (a_ruleRhs := a_ruleRhs) (a_cells := a_cells) (a_nodeRule := b_nodeRule) (a_nodeFirst := b_nodeFirst) (a_nodeLast := b_nodeLast) (a_nodeBorn := b_nodeBorn) (a_nodeState := b_nodeState) (a_nodeLook := b_nodeLook) (a_nodeChild := b_nodeChild) (a_oldRule := b_oldRule) (a_oldFirst := b_oldFirst) (a_oldLast := b_oldLast) (a_oldBorn := b_oldBorn) (a_oldState := b_oldState) (a_oldLook := b_oldLook) (a_entryRef := b_entryRef) (a_entryState := b_entryState) (post := fun r' v' => r' = 1 ∧ i_Rel (k + 5) (nI (W.2 - 1), nI ml, nI (248 - n0), nI n0, f_newCount, f_depth, f_pos, 1, f_lastVerdict, f_keptCount, f_parseNumber, a_ruleLhs, a_ruleLen, a_ruleRhs, a_cells, ze_de a_tokens p (W.2 - 1), a_nodeRule, w2, w3, a_nodeBorn, a_nodeState, a_nodeLook, a_nodeSize, a_numberOf, w8, a_nodeReused, a_kids, a_freeSlots, a_order, a_newOrder, a_headAt, a_entryNode, a_entryFirst, a_entryState) v') (by omega) p1 ?_ (W.2 - 1 - p) p (by omega) (Nat.le_refl _) (W.2 - p + 1) (by omega)
        · rw [e0] at HY; exact HY
        · intro n'
          refine pk_le (W.2 - 1) (W.2 - 1) (fun _ => ?_) (fun h => by omega) (zz_s1 (by omega)) rfl
          refine nm_r (zz_s1 (by omega)) ⟨n0 + 1, ?_⟩
          refine wy_d58 (FF := FF) (LL := LL) (bk := bk) hn0 (by omega) bb2 (fun aF aL hfl => ?_) n0 0 (by omega) _ (by omega) _ _ (fun j hj => absurd hj (Nat.not_lt_zero _)) (fun j hj _ => ⟨(hY j hj).2.2.2.2.1, (hY j hj).2.2.2.2.2⟩)
          refine ⟨rfl, ?_⟩
          refine zz_mk (tb := tb) (W0 := W0) (W := ze_Wd W p) (K0 := K0) (n0 := n0) (ml := ml) (o := o) (fs := fs) (FF := ze_dn p FF FF) (LL := ze_dn p FF LL) (bk := ze_b (p + 1) p FF LL bk) (bn := bn) ?_
          refine ⟨ht, ze_wd hw p1, hw0, hG0, hn, ⟨?_, hm2⟩, hS, ze_pd J0 hn hp p1, fun i hi => ze_b1 (hb i hi), ze_o hO h8 h23, hO2, ze_y hY hfl, Or.inr rfl, fun h => absurd h (by decide)⟩
          show W.2 - 1 ≤ ml
          omega
  · exact br_f g0 (br_f g1 (br_f g0 (br_f g1 ⟨rfl, zz_mk hG'⟩)))
theorem i_vc_replace {k : Nat} {u : SX} {v : SY} (I : i_Rel k u v) (hk : k + 5 ≤ 2562) (v1 : Int32) (v2 : Int32) : wpX_replace (fun r u' => wpY_replace (fun r' v' => r' = r ∧ i_Rel (k + 5) u' v') v v1 v2) u v1 v2 := by
  refine zz_el (P := fun u v => wpX_replace (fun r u' => wpY_replace (fun r' v' => r' = r ∧ i_Rel (k + 5) u' v') v v1 v2) u v1 v2) ?_ I
  intro f_newCount f_depth f_pos f_stale f_lastVerdict f_keptCount f_parseNumber a_ruleLhs a_ruleLen a_ruleRhs a_cells a_tokens a_nodeRule a_nodeFirst a_nodeLast a_nodeBorn a_nodeState a_nodeLook a_nodeSize a_numberOf a_nodeBroken a_nodeReused a_kids a_freeSlots a_order a_newOrder a_headAt a_entryNode a_entryFirst a_entryState g_olds g_entries g_pos g_result g_keptNodes b_nodeRule b_nodeFirst b_nodeLast b_nodeBorn b_nodeState b_nodeLook b_nodeChild b_oldRule b_oldFirst b_oldLast b_oldBorn b_oldState b_oldLook b_entryRef b_entryState tb W0 W K0 n0 ml o fs FF LL bk bn hG
  have hG' := hG
  obtain ⟨ht, hw, hw0, hG0, hn, hml, hS, hp, hb, hO, hO2, hY, hst, hN⟩ := hG
  have J0 := qm_Jk ht.1 hw0 K0 hG0
  have hn0 : n0 ≤ 124 := by rw [hn]; exact (qj_cnt ht.1 hw0 J0).2.2.2.1
  obtain ⟨hm1, hm2⟩ := hml
  by_cases g0 : v1 < 0
  · exact br_t g0 (br_t g0 ⟨rfl, zz_mk hG'⟩)
  by_cases g1 : nI W.2 ≤ v1
  · exact br_f g0 (br_t g1 (br_f g0 (br_t g1 ⟨rfl, zz_mk hG'⟩)))
  by_cases g2 : v2 < 0
  · exact br_f g0 (br_f g1 (br_t g2 (br_f g0 (br_f g1 (br_t g2 ⟨rfl, zz_mk hG'⟩)))))
  by_cases g3 : v2 ≤ 6
  · obtain ⟨p, p1, rfl⟩ := zz_lt g0 (Int32.not_le.mp g1) (by omega)
    obtain ⟨kd, kd1, rfl⟩ := nI_of2 (n := 6) (by decide) g2 g3
    obtain ⟨bb1, bb2⟩ := zi_bb (tb := tb) hw.1 hp hb
    refine br_f g0 (br_f g1 (br_f g2 (br_t g3 ?_)))
    refine And.intro (pk_in p 16 (by omega)) (nm_r (zz_up p rfl (by omega) rfl) ?_)
    refine wx_brk (lo := p + 1) (fun f hf => ?_) (by omega) hn0 hS.1 hS.2.1 hO bb1 (fun w8 h8 => ?_)
    · rw [nI_ltI (by omega) (by omega)]; omega
    refine br_f g0 (br_f g1 (br_f g2 (br_t g3 ?_)))
    refine And.intro (pk_in p 16 (by omega)) (nm_r (zz_up p rfl (by omega) rfl) ⟨n0 + 1, ?_⟩)
    refine wy_r33 (FF := FF) (LL := LL) (bk := bk) hn0 (by omega) bb2 (fun aF aL hfl => ?_) n0 0 (by omega) _ (by omega) _ _ (fun j hj => absurd hj (Nat.not_lt_zero _)) (fun j hj _ => ⟨(hY j hj).2.2.2.2.1, (hY j hj).2.2.2.2.2⟩)
    refine ⟨rfl, ?_⟩
    refine zz_mk (tb := tb) (W0 := W0) (W := ze_Wr W p kd) (K0 := K0) (n0 := n0) (ml := ml) (o := o) (fs := fs) (FF := FF) (LL := LL) (bk := ze_b (p + 1) p FF LL bk) (bn := bn) ?_
    exact ⟨ht, ze_wr hw kd1, hw0, hG0, hn, ⟨hm1, hm2⟩, hS, ze_pr J0 hn hp, fun i hi => ze_b1 (hb i hi), ze_o hO h8 (fun i hi hz => (hO i hi).2.2.2.2.2.2.2.1 (ze_b0 hz).1), hO2, ze_y hY hfl, Or.inr rfl, fun h => absurd h (by decide)⟩
  · exact br_f g0 (br_f g1 (br_f g2 (br_f g3 (br_f g0 (br_f g1 (br_f g2 (br_f g3 ⟨rfl, zz_mk hG'⟩)))))))
end
section
/-! tables -/
def zt_r (l n h : Int32) : Prop := l = nI l.toNatClampNeg ∧ l.toNatClampNeg ≤ 11 ∧ n = nI n.toNatClampNeg ∧ n.toNatClampNeg ≤ 4 ∧ (n.toNatClampNeg ≠ 0 → 8 ≤ l.toNatClampNeg ∧ (n.toNatClampNeg = 1 → 8 ≤ ((h >>> ((4 * nI 0) &&& 31)) &&& 15).toNatClampNeg → l.toNatClampNeg < ((h >>> ((4 * nI 0) &&& 31)) &&& 15).toNatClampNeg))
def zt_c (c : Nat) (v : Int32) : Prop := v = nI v.toNatClampNeg ∧ v.toNatClampNeg ≤ 43 ∧ (c < 7 → v.toNatClampNeg ≤ 15 ∨ 32 ≤ v.toNatClampNeg) ∧ (c = 7 → v.toNatClampNeg = 0 ∨ v.toNatClampNeg = 16 ∨ 32 ≤ v.toNatClampNeg) ∧ (8 ≤ c → v.toNatClampNeg ≤ 15)
def zt_ok (a_ruleLhs a_ruleLen a_ruleRhs a_cells : Nat → Int32) : Prop := (∀ r, r < 12 → zt_r (a_ruleLhs r) (a_ruleLen r) (a_ruleRhs r)) ∧ (∀ j, j < 192 → zt_c (j % 12) (a_cells j))
def zt_tb (a_ruleLhs a_ruleLen a_ruleRhs a_cells : Nat → Int32) : qm_T := (fun r => (a_ruleLhs r).toNatClampNeg, fun r => (a_ruleLen r).toNatClampNeg, fun r i => ((a_ruleRhs r >>> ((4 * nI i) &&& 31)) &&& 15).toNatClampNeg, fun j => (a_cells j).toNatClampNeg)
theorem zz_and15 (x : Int32) : x &&& 15 = nI (x &&& 15).toNatClampNeg ∧ (x &&& 15).toNatClampNeg < 16 := by
  obtain ⟨j, j1, j2⟩ := pk_andE x (m := 15) 4 (by decide)
  rw [j2, nI_clamp (by omega)]
  exact ⟨rfl, by omega⟩
theorem zt_to {a_ruleLhs a_ruleLen a_ruleRhs a_cells : Nat → Int32} (h : zt_ok a_ruleLhs a_ruleLen a_ruleRhs a_cells) : zr_t a_ruleLhs a_ruleLen a_ruleRhs a_cells (zt_tb a_ruleLhs a_ruleLen a_ruleRhs a_cells) := by
  obtain ⟨h1, h2⟩ := h
  refine ⟨⟨?_, ?_⟩, ?_, ?_⟩
  · intro r hr hn
    obtain ⟨q1, q2, q3, q4, q5⟩ := h1 r hr
    obtain ⟨q6, q7⟩ := q5 hn
    exact ⟨q4, q6, q2, q7⟩
  · intro s c hs hc
    obtain ⟨q1, q2, q3, q4, q5⟩ := h2 (s * 12 + c) (by omega)
    rw [show (s * 12 + c) % 12 = c by omega] at q3 q4 q5
    have e : qt_ce (zt_tb a_ruleLhs a_ruleLen a_ruleRhs a_cells) (s * 12 + c) = (a_cells (s * 12 + c)).toNatClampNeg := rfl
    rw [e]
    refine ⟨fun h => ?_, fun h => ?_, q5⟩
    · rcases q3 h with g | g
      · exact Or.inl g
      · exact Or.inr ⟨g, q2⟩
    · rcases q4 h with g | g | g
      · exact Or.inl g
      · exact Or.inr (Or.inl g)
      · exact Or.inr (Or.inr ⟨g, q2⟩)
  · intro r hr
    obtain ⟨q1, q2, q3, q4, q5⟩ := h1 r hr
    exact ⟨q1, q2, q3, q4, fun i _ => zz_and15 _⟩
  · intro j hj
    obtain ⟨q1, q2, _⟩ := h2 j hj
    exact ⟨q1, q2⟩
theorem zt_of {a_ruleLhs a_ruleLen a_ruleRhs a_cells : Nat → Int32} {tb : qm_T} (h : zr_t a_ruleLhs a_ruleLen a_ruleRhs a_cells tb) : zt_ok a_ruleLhs a_ruleLen a_ruleRhs a_cells := by
  obtain ⟨⟨v1, v2⟩, h1, h2⟩ := h
  refine ⟨?_, ?_⟩
  · intro r hr
    obtain ⟨q1, q2, q3, q4, q5⟩ := h1 r hr
    obtain ⟨q6, q7⟩ := q5 0 (by omega)
    unfold zt_r
    rw [q1, q3, q6, nI_clamp (by omega), nI_clamp (by omega), nI_clamp (by omega)]
    refine ⟨rfl, q2, rfl, q4, fun hn => ?_⟩
    obtain ⟨t1, t2, t3, t4⟩ := v1 r hr hn
    exact ⟨t2, t4⟩
  · intro j hj
    obtain ⟨q1, q2⟩ := h2 j hj
    have hv := v2 (j / 12) (j % 12) (by omega) (by omega)
    rw [show j / 12 * 12 + j % 12 = j by omega] at hv
    obtain ⟨t1, t2, t3⟩ := hv
    unfold zt_c
    rw [q1, nI_clamp (by omega)]
    refine ⟨rfl, q2, fun h => ?_, fun h => ?_, t3⟩
    · rcases t1 h with g | g
      · exact Or.inl g
      · exact Or.inr g.1
    · rcases t2 h with g | g | g
      · exact Or.inl g
      · exact Or.inr (Or.inl g)
      · exact Or.inr (Or.inr g.1)
theorem zt_putR {a_ruleLhs a_ruleLen a_ruleRhs a_cells : Nat → Int32} {r : Nat} {l n h : Int32} (hk : zt_ok a_ruleLhs a_ruleLen a_ruleRhs a_cells) (hr : zt_r l n h) : zt_ok (upd a_ruleLhs r l) (upd a_ruleLen r n) (upd a_ruleRhs r h) a_cells := by
  refine ⟨?_, hk.2⟩
  intro s hs
  by_cases h : s = r
  · rw [h, pk_us, pk_us, pk_us]; exact hr
  · rw [pk_un h, pk_un h, pk_un h]; exact hk.1 s hs
theorem zt_putC {a_ruleLhs a_ruleLen a_ruleRhs a_cells : Nat → Int32} {s c : Nat} {v : Int32} (hk : zt_ok a_ruleLhs a_ruleLen a_ruleRhs a_cells) (hc : c < 12) (hv : zt_c c v) : zt_ok a_ruleLhs a_ruleLen a_ruleRhs (upd a_cells (s * 12 + c) v) := by
  refine ⟨hk.1, ?_⟩
  intro j hj
  by_cases h : j = s * 12 + c
  · rw [h, pk_us, show (s * 12 + c) % 12 = c by omega]; exact hv
  · rw [pk_un h]; exact hk.2 j hj
section
variable {n0 : Nat} {o fs : Nat → Nat} {f_tokenTotal f_tokenLimit f_freeCount f_storedCount f_newCount f_depth f_pos f_stale f_lastVerdict f_keptCount f_parseNumber : Int32} {a_ruleLhs a_ruleLen a_ruleRhs a_cells a_tokens a_nodeRule a_nodeFirst a_nodeLast a_nodeBorn a_nodeState a_nodeLook a_nodeSize a_numberOf a_nodeBroken a_nodeReused a_kids a_freeSlots a_order a_newOrder a_headAt a_entryNode a_entryFirst a_entryState : Nat → Int32}
theorem wx_tc {post : SX → Prop} (hn0 : n0 ≤ 124) (hS : zx_S n0 o fs a_freeSlots a_order) (ho : ∀ i, i < n0 → o i < 248)
    (h : ∀ (fs' : Nat → Nat) (v16 : Nat → Int32), zx_S 0 o fs' v16 a_order → post (f_tokenTotal, f_tokenLimit, nI 248, 0, f_newCount, f_depth, f_pos, 1, f_lastVerdict, f_keptCount, f_parseNumber, a_ruleLhs, a_ruleLen, a_ruleRhs, a_cells, a_tokens, a_nodeRule, a_nodeFirst, a_nodeLast, a_nodeBorn, a_nodeState, a_nodeLook, a_nodeSize, a_numberOf, a_nodeBroken, a_nodeReused, a_kids, v16, a_order, a_newOrder, a_headAt, a_entryNode, a_entryFirst, a_entryState)) : wpX_tableChanged post (f_tokenTotal, f_tokenLimit, nI (248 - n0), nI n0, f_newCount, f_depth, f_pos, f_stale, f_lastVerdict, f_keptCount, f_parseNumber, a_ruleLhs, a_ruleLen, a_ruleRhs, a_cells, a_tokens, a_nodeRule, a_nodeFirst, a_nodeLast, a_nodeBorn, a_nodeState, a_nodeLook, a_nodeSize, a_numberOf, a_nodeBroken, a_nodeReused, a_kids, a_freeSlots, a_order, a_newOrder, a_headAt, a_entryNode, a_entryFirst, a_entryState) := by
  have H : ∀ d i, i + d = n0 → ∀ n, d < n → ∀ (fs' : Nat → Nat) (v16 : Nat → Int32), zx_f 0 i n0 (248 - n0 + i) o o fs' v16 → wX_tableChanged_2 post n (nI i) f_tokenTotal f_tokenLimit (nI (248 - n0 + i)) (nI n0) f_newCount f_depth f_pos f_stale f_lastVerdict f_keptCount f_parseNumber a_ruleLhs a_ruleLen a_ruleRhs a_cells a_tokens a_nodeRule a_nodeFirst a_nodeLast a_nodeBorn a_nodeState a_nodeLook a_nodeSize a_numberOf a_nodeBroken a_nodeReused a_kids v16 a_order a_newOrder a_headAt a_entryNode a_entryFirst a_entryState := by
    intro d
    induction d with
    | zero =>
      intro i hi n hn fs' v16 hF
      obtain ⟨n, rfl⟩ : ∃ m, n = m + 1 := ⟨n - 1, by omega⟩
      refine pk_le n0 i (fun _ => ?_) (fun h => by omega)
      have e : 248 - n0 + i = 248 := by omega
      rw [e] at hF ⊢
      refine h fs' v16 ⟨fun x y hx => absurd hx (Nat.not_lt_zero _), fun x hx => absurd hx (Nat.not_lt_zero _), fun j hj => ?_, hF.2⟩
      obtain ⟨a1, a2, _⟩ := hF.1 j hj
      exact ⟨a1, a2, fun x hx => absurd hx (Nat.not_lt_zero _)⟩
    | succ d ih =>
      intro i hi n hn fs' v16 hF
      obtain ⟨n, rfl⟩ : ∃ m, n = m + 1 := ⟨n - 1, by omega⟩
      have hin : i < n0 := by omega
      refine pk_le n0 i (fun h => by omega) (fun _ => ?_)
      refine And.intro (pk_in i 124 (by omega)) ?_
      rw [zz_at i rfl (by omega) (hS.2.1 i hin)]
      refine wx_rel (by omega) (nm_r (nI_1 i) ?_)
      have e : 248 - n0 + i + 1 = 248 - n0 + (i + 1) := by omega
      rw [e]
      refine ih (i + 1) (by omega) n (by omega) (qm_up fs' (248 - n0 + i) (o i)) _ ⟨?_, ?_⟩
      · intro j hj
        by_cases hjf : j = 248 - n0 + i
        · rw [hjf, qm_us, pk_us]
          refine ⟨ho i hin, rfl, fun x hx => absurd hx (Nat.not_lt_zero _), fun i' h1' h2' he => ?_⟩
          have := hS.1 _ _ hin h2' he
          omega
        · rw [qm_un hjf, pk_un hjf]
          obtain ⟨a1, a2, a3, a4⟩ := hF.1 j (by omega)
          exact ⟨a1, a2, a3, fun i' h1' h2' => a4 i' (by omega) h2'⟩
      · intro x y hx hy hxy
        by_cases hxf : x = 248 - n0 + i
        · by_cases hyf : y = 248 - n0 + i
          · omega
          · rw [hxf, qm_us, qm_un hyf] at hxy
            exact absurd hxy.symm ((hF.1 y (by omega)).2.2.2 i (Nat.le_refl _) hin)
        · by_cases hyf : y = 248 - n0 + i
          · rw [hyf, qm_us, qm_un hxf] at hxy
            exact absurd hxy ((hF.1 x (by omega)).2.2.2 i (Nat.le_refl _) hin)
          · rw [qm_un hxf, qm_un hyf] at hxy
            exact hF.2 x y (by omega) (by omega) hxy
  refine ⟨n0 + 1, H n0 0 (by omega) _ (by omega) fs a_freeSlots ⟨?_, hS.2.2.2⟩⟩
  intro j hj
  obtain ⟨a1, a2, a3⟩ := hS.2.2.1 j hj
  exact ⟨a1, a2, fun x hx => absurd hx (Nat.not_lt_zero _), fun i' _ hi' => a3 i' hi'⟩
end
/-- a new table: no nodes are left -/
theorem zz_new {k : Nat} {W : qm_W} {ml : Nat} {o fs : Nat → Nat} {f_newCount f_depth f_pos f_stale f_lastVerdict f_keptCount f_parseNumber g_olds g_entries g_pos g_result g_keptNodes g_parseNumber g_stale : Int32} {a_ruleLhs a_ruleLen a_ruleRhs a_cells a_tokens a_nodeRule a_nodeFirst a_nodeLast a_nodeBorn a_nodeState a_nodeLook a_nodeSize a_numberOf a_nodeBroken a_nodeReused a_kids a_freeSlots a_order a_newOrder a_headAt a_entryNode a_entryFirst a_entryState b_nodeRule b_nodeFirst b_nodeLast b_nodeBorn b_nodeState b_nodeLook b_nodeChild b_oldRule b_oldFirst b_oldLast b_oldBorn b_oldState b_oldLook b_entryRef b_entryState b_ruleLhs b_ruleLen b_ruleRhs b_cells b_token : Nat → Int32} (hk : zt_ok a_ruleLhs a_ruleLen a_ruleRhs a_cells) (hw : zr_w a_tokens W) (hml : W.2 ≤ ml ∧ ml ≤ 16) (hS : zx_S 0 o fs a_freeSlots a_order) (hs : f_stale = 1) (e1 : g_parseNumber = f_parseNumber) (e2 : g_stale = f_stale) (e3 : b_ruleLhs = a_ruleLhs) (e4 : b_ruleLen = a_ruleLen) (e5 : b_ruleRhs = a_ruleRhs) (e6 : b_cells = a_cells) (e7 : b_token = a_tokens) : i_Rel k (nI W.2, nI ml, nI 248, 0, f_newCount, f_depth, f_pos, f_stale, f_lastVerdict, f_keptCount, f_parseNumber, a_ruleLhs, a_ruleLen, a_ruleRhs, a_cells, a_tokens, a_nodeRule, a_nodeFirst, a_nodeLast, a_nodeBorn, a_nodeState, a_nodeLook, a_nodeSize, a_numberOf, a_nodeBroken, a_nodeReused, a_kids, a_freeSlots, a_order, a_newOrder, a_headAt, a_entryNode, a_entryFirst, a_entryState) (nI ml, nI W.2, 0, g_olds, g_entries, g_pos, g_result, g_keptNodes, g_parseNumber, g_stale, b_ruleLhs, b_ruleLen, b_ruleRhs, b_cells, b_token, b_nodeRule, b_nodeFirst, b_nodeLast, b_nodeBorn, b_nodeState, b_nodeLook, b_nodeChild, b_oldRule, b_oldFirst, b_oldLast, b_oldBorn, b_oldState, b_oldLook, b_entryRef, b_entryState) := by
  subst e1 e2 e3 e4 e5 e6 e7
  refine zz_mk (tb := zt_tb b_ruleLhs b_ruleLen b_ruleRhs b_cells) (W0 := W) (W := W) (K0 := 0) (n0 := 0) (ml := ml) (o := o) (fs := fs) (FF := fun _ => 0) (LL := fun _ => 0) (bk := fun _ => 0) (bn := fun _ => 0) ?_
  refine ⟨zt_to hk, hw, zr_wv hw, fun j hj => absurd hj (Nat.not_lt_zero _), rfl, hml, hS, ⟨fun i hi => absurd hi (Nat.not_lt_zero _), fun i j hi => absurd hi (Nat.not_lt_zero _)⟩, fun i hi => absurd hi (Nat.not_lt_zero _), fun i hi => absurd hi (Nat.not_lt_zero _), fun i hi => absurd hi (Nat.not_lt_zero _), fun i hi => absurd hi (Nat.not_lt_zero _), Or.inr hs, fun h => ?_⟩
  rw [hs] at h
  exact absurd h (by decide)
end
section
def zt_T (v : Int32) : Prop := ¬ v < 0 ∧ ¬ 15 < v
def zt_R (v : Int32) : Prop := ¬ v < 32 ∧ ¬ 43 < v
def zt_A (c : Nat) (v : Int32) : Prop := (c < 7 → zt_T v ∨ zt_R v) ∧ (c = 7 → v = 0 ∨ v = 16 ∨ zt_R v) ∧ (8 ≤ c → zt_T v)
theorem zt_Tn {v : Int32} (h : zt_T v) : ∃ m, m ≤ 15 ∧ v = nI m := nI_of2 (n := 15) (by decide) h.1 (Int32.not_lt.mp h.2)
theorem zt_Rn {v : Int32} (h : zt_R v) : ∃ m, 32 ≤ m ∧ m ≤ 43 ∧ v = nI m := by
  have h0 : ¬ v < 0 := by
    intro hz
    exact h.1 (Int32.lt_trans hz (by decide))
  obtain ⟨m, m1, rfl⟩ := nI_of2 (n := 43) (by decide) h0 (Int32.not_lt.mp h.2)
  refine ⟨m, ?_, m1, rfl⟩
  have := h.1
  rw [show (32 : Int32) = nI 32 from rfl, nI_ltI (by omega) (by omega)] at this
  omega
theorem zt_cN {c m : Nat} (h43 : m ≤ 43) (h1 : c < 7 → m ≤ 15 ∨ 32 ≤ m) (h2 : c = 7 → m = 0 ∨ m = 16 ∨ 32 ≤ m) (h3 : 8 ≤ c → m ≤ 15) : zt_c c (nI m) := by
  unfold zt_c
  rw [nI_clamp (by omega)]
  exact ⟨rfl, h43, h1, h2, h3⟩
theorem zt_Ac {c : Nat} {v : Int32} (h : zt_A c v) : zt_c c v := by
  obtain ⟨h1, h2, h3⟩ := h
  rcases Nat.lt_trichotomy c 7 with hc | hc | hc
  · rcases h1 hc with g | g
    · obtain ⟨m, m1, rfl⟩ := zt_Tn g
      exact zt_cN (by omega) (fun _ => Or.inl m1) (fun z => by omega) (fun z => by omega)
    · obtain ⟨m, m1, m2, rfl⟩ := zt_Rn g
      exact zt_cN (by omega) (fun _ => Or.inr m1) (fun z => by omega) (fun z => by omega)
  · rcases h2 hc with g | g | g
    · rw [g]; exact zt_cN (m := 0) (by omega) (fun z => by omega) (fun _ => Or.inl rfl) (fun z => by omega)
    · rw [g]; exact zt_cN (m := 16) (by omega) (fun z => by omega) (fun _ => Or.inr (Or.inl rfl)) (fun z => by omega)
    · obtain ⟨m, m1, m2, rfl⟩ := zt_Rn g
      exact zt_cN (by omega) (fun z => by omega) (fun _ => Or.inr (Or.inr m1)) (fun z => by omega)
  · obtain ⟨m, m1, rfl⟩ := zt_Tn (h3 hc)
    exact zt_cN (by omega) (fun z => by omega) (fun z => by omega) (fun _ => m1)
section
variable {f_tokenTotal f_tokenLimit f_freeCount f_storedCount f_newCount f_depth f_pos f_stale f_lastVerdict f_keptCount f_parseNumber : Int32} {a_ruleLhs a_ruleLen a_ruleRhs a_cells a_tokens a_nodeRule a_nodeFirst a_nodeLast a_nodeBorn a_nodeState a_nodeLook a_nodeSize a_numberOf a_nodeBroken a_nodeReused a_kids a_freeSlots a_order a_newOrder a_headAt a_entryNode a_entryFirst a_entryState : Nat → Int32}
/-- flags: a is 1 just when P -/
theorem wx_va33 {post : Int32 → Prop} {c : Nat} {v a b : Int32} (hc : c < 12) (ha : (a = 1 ∧ zt_T v) ∨ (a = 0 ∧ ¬ zt_T v)) (hb : (b = 1 ∧ zt_R v) ∨ (b = 0 ∧ ¬ zt_R v)) (h1 : zt_A c v → post 1) (h0 : ¬ zt_A c v → post 0) : wX_valueAllowed_33 post (nI c) v a b f_tokenTotal f_tokenLimit f_freeCount f_storedCount f_newCount f_depth f_pos f_stale f_lastVerdict f_keptCount f_parseNumber a_ruleLhs a_ruleLen a_ruleRhs a_cells a_tokens a_nodeRule a_nodeFirst a_nodeLast a_nodeBorn a_nodeState a_nodeLook a_nodeSize a_numberOf a_nodeBroken a_nodeReused a_kids a_freeSlots a_order a_newOrder a_headAt a_entryNode a_entryFirst a_entryState := by
  refine pk_le 7 c (fun h7 => ?_) (fun h7 => ?_)
  · refine pk_eq c 7 (fun e7 => ?_) (fun e7 => ?_)
    · by_cases v0 : v = 0
      · exact br_t v0 (h1 ⟨fun z => by omega, fun _ => Or.inl v0, fun z => by omega⟩)
      · by_cases v16 : v = 16
        · exact br_f v0 (br_t v16 (h1 ⟨fun z => by omega, fun _ => Or.inr (Or.inl v16), fun z => by omega⟩))
        · refine br_f v0 (br_f v16 ?_)
          rcases hb with ⟨rfl, g⟩ | ⟨rfl, g⟩
          · exact br_f (by decide) (h1 ⟨fun z => by omega, fun _ => Or.inr (Or.inr g), fun z => by omega⟩)
          · refine br_t rfl (h0 (fun z => ?_))
            rcases z.2.1 e7 with q | q | q
            · exact v0 q
            · exact v16 q
            · exact g q
    · rcases ha with ⟨rfl, g⟩ | ⟨rfl, g⟩
      · exact And.intro rfl (h1 ⟨fun z => by omega, fun z => by omega, fun _ => g⟩)
      · exact And.intro rfl (h0 (fun z => g (z.2.2 (by omega))))
  · rcases ha with ⟨rfl, g⟩ | ⟨rfl, g⟩
    · exact br_f (by decide) (h1 ⟨fun _ => Or.inl g, fun z => by omega, fun z => by omega⟩)
    · refine br_t rfl ?_
      rcases hb with ⟨rfl, q⟩ | ⟨rfl, q⟩
      · exact br_f (by decide) (h1 ⟨fun _ => Or.inr q, fun z => by omega, fun z => by omega⟩)
      · refine br_t rfl (h0 (fun z => ?_))
        rcases z.1 h7 with w | w
        · exact g w
        · exact q w
theorem wx_va15 {post : Int32 → Prop} {c : Nat} {v a : Int32} (hc : c < 12) (ha : (a = 1 ∧ zt_T v) ∨ (a = 0 ∧ ¬ zt_T v)) (h1 : zt_A c v → post 1) (h0 : ¬ zt_A c v → post 0) : wX_valueAllowed_15 post (nI c) v a f_tokenTotal f_tokenLimit f_freeCount f_storedCount f_newCount f_depth f_pos f_stale f_lastVerdict f_keptCount f_parseNumber a_ruleLhs a_ruleLen a_ruleRhs a_cells a_tokens a_nodeRule a_nodeFirst a_nodeLast a_nodeBorn a_nodeState a_nodeLook a_nodeSize a_numberOf a_nodeBroken a_nodeReused a_kids a_freeSlots a_order a_newOrder a_headAt a_entryNode a_entryFirst a_entryState := by
  by_cases c1 : v < 32
  · exact br_t c1 (wx_va33 hc ha (Or.inr ⟨rfl, fun z => z.1 c1⟩) h1 h0)
  · by_cases c2 : 43 < v
    · exact br_f c1 (br_t c2 (wx_va33 hc ha (Or.inr ⟨rfl, fun z => z.2 c2⟩) h1 h0))
    · exact br_f c1 (br_f c2 (wx_va33 hc ha (Or.inl ⟨rfl, c1, c2⟩) h1 h0))
theorem wx_va {post : Int32 → Prop} {c : Nat} {v : Int32} (hc : c < 12) (h1 : zt_A c v → post 1) (h0 : ¬ zt_A c v → post 0) : wpX_valueAllowed post (f_tokenTotal, f_tokenLimit, f_freeCount, f_storedCount, f_newCount, f_depth, f_pos, f_stale, f_lastVerdict, f_keptCount, f_parseNumber, a_ruleLhs, a_ruleLen, a_ruleRhs, a_cells, a_tokens, a_nodeRule, a_nodeFirst, a_nodeLast, a_nodeBorn, a_nodeState, a_nodeLook, a_nodeSize, a_numberOf, a_nodeBroken, a_nodeReused, a_kids, a_freeSlots, a_order, a_newOrder, a_headAt, a_entryNode, a_entryFirst, a_entryState) (nI c) v := by
  by_cases c1 : v < 0
  · exact br_t c1 (wx_va15 hc (Or.inr ⟨rfl, fun z => z.1 c1⟩) h1 h0)
  · by_cases c2 : 15 < v
    · exact br_f c1 (br_t c2 (wx_va15 hc (Or.inr ⟨rfl, fun z => z.2 c2⟩) h1 h0))
    · exact br_f c1 (br_f c2 (wx_va15 hc (Or.inl ⟨rfl, c1, c2⟩) h1 h0))
theorem wx_pc {post : SX → Prop} {s c : Nat} {v : Int32} (hs : s < 16) (hc : c < 12) (h : post (f_tokenTotal, f_tokenLimit, f_freeCount, f_storedCount, f_newCount, f_depth, f_pos, f_stale, f_lastVerdict, f_keptCount, f_parseNumber, a_ruleLhs, a_ruleLen, a_ruleRhs, upd a_cells (s * 12 + c) v, a_tokens, a_nodeRule, a_nodeFirst, a_nodeLast, a_nodeBorn, a_nodeState, a_nodeLook, a_nodeSize, a_numberOf, a_nodeBroken, a_nodeReused, a_kids, a_freeSlots, a_order, a_newOrder, a_headAt, a_entryNode, a_entryFirst, a_entryState)) : wpX_putCell post (f_tokenTotal, f_tokenLimit, f_freeCount, f_storedCount, f_newCount, f_depth, f_pos, f_stale, f_lastVerdict, f_keptCount, f_parseNumber, a_ruleLhs, a_ruleLen, a_ruleRhs, a_cells, a_tokens, a_nodeRule, a_nodeFirst, a_nodeLast, a_nodeBorn, a_nodeState, a_nodeLook, a_nodeSize, a_numberOf, a_nodeBroken, a_nodeReused, a_kids, a_freeSlots, a_order, a_newOrder, a_headAt, a_entryNode, a_entryFirst, a_entryState) (nI s) (nI c) v :=
  And.intro (pk_in (s * 12 + c) 192 (by omega) (zz_m12 s c)) (nm_r (zz_up (s * 12 + c) (zz_m12 s c) (by omega) rfl) h)
theorem wx_pr {post : SX → Prop} {r : Nat} {x y z : Int32} (hr : r < 12) (h : post (f_tokenTotal, f_tokenLimit, f_freeCount, f_storedCount, f_newCount, f_depth, f_pos, f_stale, f_lastVerdict, f_keptCount, f_parseNumber, upd a_ruleLhs r x, upd a_ruleLen r y, upd a_ruleRhs r z, a_cells, a_tokens, a_nodeRule, a_nodeFirst, a_nodeLast, a_nodeBorn, a_nodeState, a_nodeLook, a_nodeSize, a_numberOf, a_nodeBroken, a_nodeReused, a_kids, a_freeSlots, a_order, a_newOrder, a_headAt, a_entryNode, a_entryFirst, a_entryState)) : wpX_putRule post (f_tokenTotal, f_tokenLimit, f_freeCount, f_storedCount, f_newCount, f_depth, f_pos, f_stale, f_lastVerdict, f_keptCount, f_parseNumber, a_ruleLhs, a_ruleLen, a_ruleRhs, a_cells, a_tokens, a_nodeRule, a_nodeFirst, a_nodeLast, a_nodeBorn, a_nodeState, a_nodeLook, a_nodeSize, a_numberOf, a_nodeBroken, a_nodeReused, a_kids, a_freeSlots, a_order, a_newOrder, a_headAt, a_entryNode, a_entryFirst, a_entryState) (nI r) x y z :=
  And.intro (pk_in r 12 hr) (nm_r (zz_up r rfl (by omega) rfl) (And.intro (pk_in r 12 hr) (nm_r (zz_up r rfl (by omega) rfl) (And.intro (pk_in r 12 hr) (nm_r (zz_up r rfl (by omega) rfl) h)))))
end
section
variable {f_greatest f_count f_nodes f_olds f_entries f_pos f_result f_keptNodes f_parseNumber f_stale : Int32} {a_ruleLhs a_ruleLen a_ruleRhs a_cells a_token a_nodeRule a_nodeFirst a_nodeLast a_nodeBorn a_nodeState a_nodeLook a_nodeChild a_oldRule a_oldFirst a_oldLast a_oldBorn a_oldState a_oldLook a_entryRef a_entryState : Nat → Int32}
theorem wy_112 {post : Int32 → SY → Prop} {s c : Nat} {v : Int32} (hs : s < 16) (hc : c < 12) (h : post 1 (f_greatest, f_count, 0, f_olds, f_entries, f_pos, f_result, f_keptNodes, f_parseNumber, 1, a_ruleLhs, a_ruleLen, a_ruleRhs, upd a_cells (s * 12 + c) v, a_token, a_nodeRule, a_nodeFirst, a_nodeLast, a_nodeBorn, a_nodeState, a_nodeLook, a_nodeChild, a_oldRule, a_oldFirst, a_oldLast, a_oldBorn, a_oldState, a_oldLook, a_entryRef, a_entryState)) : wY_setCell_112 post (nI s) (nI c) v f_greatest f_count f_nodes f_olds f_entries f_pos f_result f_keptNodes f_parseNumber f_stale a_ruleLhs a_ruleLen a_ruleRhs a_cells a_token a_nodeRule a_nodeFirst a_nodeLast a_nodeBorn a_nodeState a_nodeLook a_nodeChild a_oldRule a_oldFirst a_oldLast a_oldBorn a_oldState a_oldLook a_entryRef a_entryState :=
  And.intro (pk_in (s * 12 + c) 192 (by omega) (zz_m12 s c)) (nm_r (zz_up (s * 12 + c) (zz_m12 s c) (by omega) rfl) h)
theorem wy_56 {post : Int32 → SY → Prop} {s c : Nat} {v a b : Int32} (hs : s < 16) (hc : c < 12) (ha : (a = 1 ∧ zt_T v) ∨ (a = 0 ∧ ¬ zt_T v)) (hb : (b = 1 ∧ zt_R v) ∨ (b = 0 ∧ ¬ zt_R v)) (h1 : zt_A c v → post 1 (f_greatest, f_count, 0, f_olds, f_entries, f_pos, f_result, f_keptNodes, f_parseNumber, 1, a_ruleLhs, a_ruleLen, a_ruleRhs, upd a_cells (s * 12 + c) v, a_token, a_nodeRule, a_nodeFirst, a_nodeLast, a_nodeBorn, a_nodeState, a_nodeLook, a_nodeChild, a_oldRule, a_oldFirst, a_oldLast, a_oldBorn, a_oldState, a_oldLook, a_entryRef, a_entryState)) (h0 : ¬ zt_A c v → post 0 (f_greatest, f_count, f_nodes, f_olds, f_entries, f_pos, f_result, f_keptNodes, f_parseNumber, f_stale, a_ruleLhs, a_ruleLen, a_ruleRhs, a_cells, a_token, a_nodeRule, a_nodeFirst, a_nodeLast, a_nodeBorn, a_nodeState, a_nodeLook, a_nodeChild, a_oldRule, a_oldFirst, a_oldLast, a_oldBorn, a_oldState, a_oldLook, a_entryRef, a_entryState)) : wY_setCell_56 post (nI s) (nI c) v a b f_greatest f_count f_nodes f_olds f_entries f_pos f_result f_keptNodes f_parseNumber f_stale a_ruleLhs a_ruleLen a_ruleRhs a_cells a_token a_nodeRule a_nodeFirst a_nodeLast a_nodeBorn a_nodeState a_nodeLook a_nodeChild a_oldRule a_oldFirst a_oldLast a_oldBorn a_oldState a_oldLook a_entryRef a_entryState := by
  have k112 : zt_A c v → wY_setCell_112 post (nI s) (nI c) v f_greatest f_count f_nodes f_olds f_entries f_pos f_result f_keptNodes f_parseNumber f_stale a_ruleLhs a_ruleLen a_ruleRhs a_cells a_token a_nodeRule a_nodeFirst a_nodeLast a_nodeBorn a_nodeState a_nodeLook a_nodeChild a_oldRule a_oldFirst a_oldLast a_oldBorn a_oldState a_oldLook a_entryRef a_entryState := fun h => wy_112 hs hc (h1 h)
  refine pk_lt 6 c (fun h6 => ?_) (fun h6 => ?_)
  · refine pk_eq c 7 (fun e7 => ?_) (fun e7 => ?_)
    · have k99 : zt_A c v → wY_setCell_99 post (nI s) (nI c) v a f_greatest f_count f_nodes f_olds f_entries f_pos f_result f_keptNodes f_parseNumber f_stale a_ruleLhs a_ruleLen a_ruleRhs a_cells a_token a_nodeRule a_nodeFirst a_nodeLast a_nodeBorn a_nodeState a_nodeLook a_nodeChild a_oldRule a_oldFirst a_oldLast a_oldBorn a_oldState a_oldLook a_entryRef a_entryState := fun h => pk_lt c 8 (fun _ => k112 h) (fun z => by omega)
      by_cases v0 : v = 0
      · exact br_t v0 (k99 ⟨fun z => by omega, fun _ => Or.inl v0, fun z => by omega⟩)
      · by_cases v16 : v = 16
        · exact br_f v0 (br_t v16 (k99 ⟨fun z => by omega, fun _ => Or.inr (Or.inl v16), fun z => by omega⟩))
        · refine br_f v0 (br_f v16 ?_)
          rcases hb with ⟨rfl, g⟩ | ⟨rfl, g⟩
          · exact br_f (by decide) (k99 ⟨fun z => by omega, fun _ => Or.inr (Or.inr g), fun z => by omega⟩)
          · refine br_t rfl (h0 (fun z => ?_))
            rcases z.2.1 e7 with q | q | q
            · exact v0 q
            · exact v16 q
            · exact g q
    · refine pk_lt c 8 (fun z => by omega) (fun h8 => ?_)
      rcases ha with ⟨rfl, g⟩ | ⟨rfl, g⟩
      · exact br_f (by decide) (k112 ⟨fun z => by omega, fun z => by omega, fun _ => g⟩)
      · exact br_t rfl (h0 (fun z => g (z.2.2 h8)))
  · have k76 : zt_A c v → wY_setCell_76 post (nI s) (nI c) v a b f_greatest f_count f_nodes f_olds f_entries f_pos f_result f_keptNodes f_parseNumber f_stale a_ruleLhs a_ruleLen a_ruleRhs a_cells a_token a_nodeRule a_nodeFirst a_nodeLast a_nodeBorn a_nodeState a_nodeLook a_nodeChild a_oldRule a_oldFirst a_oldLast a_oldBorn a_oldState a_oldLook a_entryRef a_entryState := fun h => pk_eq c 7 (fun z => by omega) (fun _ => pk_lt c 8 (fun _ => k112 h) (fun z => by omega))
    rcases ha with ⟨rfl, g⟩ | ⟨rfl, g⟩
    · exact br_f (by decide) (k76 ⟨fun _ => Or.inl g, fun z => by omega, fun z => by omega⟩)
    · refine br_t rfl ?_
      rcases hb with ⟨rfl, q⟩ | ⟨rfl, q⟩
      · exact br_f (by decide) (k76 ⟨fun _ => Or.inr q, fun z => by omega, fun z => by omega⟩)
      · refine br_t rfl (h0 (fun z => ?_))
        rcases z.1 (by omega) with w | w
        · exact g w
        · exact q w
theorem wy_37 {post : Int32 → SY → Prop} {s c : Nat} {v a : Int32} (hs : s < 16) (hc : c < 12) (ha : (a = 1 ∧ zt_T v) ∨ (a = 0 ∧ ¬ zt_T v)) (h1 : zt_A c v → post 1 (f_greatest, f_count, 0, f_olds, f_entries, f_pos, f_result, f_keptNodes, f_parseNumber, 1, a_ruleLhs, a_ruleLen, a_ruleRhs, upd a_cells (s * 12 + c) v, a_token, a_nodeRule, a_nodeFirst, a_nodeLast, a_nodeBorn, a_nodeState, a_nodeLook, a_nodeChild, a_oldRule, a_oldFirst, a_oldLast, a_oldBorn, a_oldState, a_oldLook, a_entryRef, a_entryState)) (h0 : ¬ zt_A c v → post 0 (f_greatest, f_count, f_nodes, f_olds, f_entries, f_pos, f_result, f_keptNodes, f_parseNumber, f_stale, a_ruleLhs, a_ruleLen, a_ruleRhs, a_cells, a_token, a_nodeRule, a_nodeFirst, a_nodeLast, a_nodeBorn, a_nodeState, a_nodeLook, a_nodeChild, a_oldRule, a_oldFirst, a_oldLast, a_oldBorn, a_oldState, a_oldLook, a_entryRef, a_entryState)) : wY_setCell_37 post (nI s) (nI c) v a f_greatest f_count f_nodes f_olds f_entries f_pos f_result f_keptNodes f_parseNumber f_stale a_ruleLhs a_ruleLen a_ruleRhs a_cells a_token a_nodeRule a_nodeFirst a_nodeLast a_nodeBorn a_nodeState a_nodeLook a_nodeChild a_oldRule a_oldFirst a_oldLast a_oldBorn a_oldState a_oldLook a_entryRef a_entryState := by
  by_cases c1 : v < 32
  · exact br_t c1 (wy_56 hs hc ha (Or.inr ⟨rfl, fun z => z.1 c1⟩) h1 h0)
  · by_cases c2 : 43 < v
    · exact br_f c1 (br_t c2 (wy_56 hs hc ha (Or.inr ⟨rfl, fun z => z.2 c2⟩) h1 h0))
    · exact br_f c1 (br_f c2 (wy_56 hs hc ha (Or.inl ⟨rfl, c1, c2⟩) h1 h0))
theorem wy_sc {post : Int32 → SY → Prop} {s c : Nat} {v : Int32} (hs : s < 16) (hc : c < 12) (h1 : zt_A c v → post 1 (f_greatest, f_count, 0, f_olds, f_entries, f_pos, f_result, f_keptNodes, f_parseNumber, 1, a_ruleLhs, a_ruleLen, a_ruleRhs, upd a_cells (s * 12 + c) v, a_token, a_nodeRule, a_nodeFirst, a_nodeLast, a_nodeBorn, a_nodeState, a_nodeLook, a_nodeChild, a_oldRule, a_oldFirst, a_oldLast, a_oldBorn, a_oldState, a_oldLook, a_entryRef, a_entryState)) (h0 : ¬ zt_A c v → post 0 (f_greatest, f_count, f_nodes, f_olds, f_entries, f_pos, f_result, f_keptNodes, f_parseNumber, f_stale, a_ruleLhs, a_ruleLen, a_ruleRhs, a_cells, a_token, a_nodeRule, a_nodeFirst, a_nodeLast, a_nodeBorn, a_nodeState, a_nodeLook, a_nodeChild, a_oldRule, a_oldFirst, a_oldLast, a_oldBorn, a_oldState, a_oldLook, a_entryRef, a_entryState)) : wpY_setCell post (f_greatest, f_count, f_nodes, f_olds, f_entries, f_pos, f_result, f_keptNodes, f_parseNumber, f_stale, a_ruleLhs, a_ruleLen, a_ruleRhs, a_cells, a_token, a_nodeRule, a_nodeFirst, a_nodeLast, a_nodeBorn, a_nodeState, a_nodeLook, a_nodeChild, a_oldRule, a_oldFirst, a_oldLast, a_oldBorn, a_oldState, a_oldLook, a_entryRef, a_entryState) (nI s) (nI c) v := by
  refine pk_lt s 0 (fun z => by omega) (fun _ => pk_lt 15 s (fun z => by omega) (fun _ => pk_lt c 0 (fun z => by omega) (fun _ => pk_le c 11 (fun _ => ?_) (fun z => by omega))))
  by_cases c1 : v < 0
  · exact br_t c1 (wy_37 hs hc (Or.inr ⟨rfl, fun z => z.1 c1⟩) h1 h0)
  · by_cases c2 : 15 < v
    · exact br_f c1 (br_t c2 (wy_37 hs hc (Or.inr ⟨rfl, fun z => z.2 c2⟩) h1 h0))
    · exact br_f c1 (br_f c2 (wy_37 hs hc (Or.inl ⟨rfl, c1, c2⟩) h1 h0))
end
theorem i_vc_setCell {k : Nat} {u : SX} {v : SY} (I : i_Rel k u v) (hk : k + 5 ≤ 2562) (v1 : Int32) (v2 : Int32) (v3 : Int32) : wpX_setCell (fun r u' => wpY_setCell (fun r' v' => r' = r ∧ i_Rel (k + 5) u' v') v v1 v2 v3) u v1 v2 v3 := by
  refine zz_el (P := fun u v => wpX_setCell (fun r u' => wpY_setCell (fun r' v' => r' = r ∧ i_Rel (k + 5) u' v') v v1 v2 v3) u v1 v2 v3) ?_ I
  intro f_newCount f_depth f_pos f_stale f_lastVerdict f_keptCount f_parseNumber a_ruleLhs a_ruleLen a_ruleRhs a_cells a_tokens a_nodeRule a_nodeFirst a_nodeLast a_nodeBorn a_nodeState a_nodeLook a_nodeSize a_numberOf a_nodeBroken a_nodeReused a_kids a_freeSlots a_order a_newOrder a_headAt a_entryNode a_entryFirst a_entryState g_olds g_entries g_pos g_result g_keptNodes b_nodeRule b_nodeFirst b_nodeLast b_nodeBorn b_nodeState b_nodeLook b_nodeChild b_oldRule b_oldFirst b_oldLast b_oldBorn b_oldState b_oldLook b_entryRef b_entryState tb W0 W K0 n0 ml o fs FF LL bk bn hG
  have hG' := hG
  obtain ⟨ht, hw, hw0, hG0, hn, hml, hS, hp, hb, hO, hO2, hY, hst, hN⟩ := hG
  have J0 := qm_Jk ht.1 hw0 K0 hG0
  have hn0 : n0 ≤ 124 := by rw [hn]; exact (qj_cnt ht.1 hw0 J0).2.2.2.1
  by_cases g0 : v1 < 0
  · exact br_t g0 (br_t g0 ⟨rfl, zz_mk hG'⟩)
  by_cases g1 : 15 < v1
  · exact br_f g0 (br_t g1 (br_f g0 (br_t g1 ⟨rfl, zz_mk hG'⟩)))
  by_cases g2 : v2 < 0
  · exact br_f g0 (br_f g1 (br_t g2 (br_f g0 (br_f g1 (br_t g2 ⟨rfl, zz_mk hG'⟩)))))
  by_cases g3 : v2 ≤ 11
  · obtain ⟨s, s1, rfl⟩ := nI_of2 (n := 15) (by decide) g0 (Int32.not_lt.mp g1)
    obtain ⟨c, c1, rfl⟩ := nI_of2 (n := 11) (by decide) g2 g3
    refine br_f g0 (br_f g1 (br_f g2 (br_t g3 ?_)))
    refine wx_va (by omega) (fun hA => ?_) (fun hA => ?_)
    · refine br_f (by decide) ?_
      refine wx_pc (by omega) (by omega) ?_
      refine wx_tc hn0 hS (fun i hi => (hO i hi).1) (fun fs' v16 hS' => ?_)
      refine wy_sc (by omega) (by omega) (fun _ => ?_) (fun h => absurd hA h)
      exact ⟨rfl, zz_new (o := o) (fs := fs') (zt_putC (zt_of ht) (by omega) (zt_Ac hA)) hw hml hS' rfl rfl rfl rfl rfl rfl rfl rfl⟩
    · refine br_t rfl ?_
      exact wy_sc (by omega) (by omega) (fun h => absurd h hA) (fun _ => ⟨rfl, zz_mk hG'⟩)
  · exact br_f g0 (br_f g1 (br_f g2 (br_f g3 (br_f g0 (br_f g1 (br_f g2 (br_f g3 ⟨rfl, zz_mk hG'⟩)))))))
end
section
def zs_s (h : Int32) (i : Nat) : Int32 := (h >>> ((4 * nI i) &&& 31)) &&& 15
def zs_acc (l n : Nat) (h : Int32) : Prop := (∀ i, i < n → ¬ zs_s h i = 7 ∧ zs_s h i ≤ 11) ∧ (n = 1 → h < 8 ∨ nI l < h)
theorem zs_r {l n : Nat} {h : Int32} (hl : 8 ≤ l ∧ l ≤ 11) (hn : 1 ≤ n ∧ n ≤ 4) (h0 : ¬ h < 0) (hs : h >>> ((4 * nI n) &&& 31) = 0) (ha : zs_acc l n h) : zt_r (nI l) (nI n) h := by
  unfold zt_r
  rw [nI_clamp (by omega), nI_clamp (by omega)]
  refine ⟨rfl, hl.2, rfl, hn.2, fun _ => ⟨hl.1, fun h1 h8 => ?_⟩⟩
  subst h1
  obtain ⟨q, q31, rfl⟩ := nI_of h0
  have e1 : nI q >>> ((4 * nI 1) &&& 31) = nI (q / 2 ^ 4) := pk_shrN q31 _ 4 (by decide)
  rw [e1] at hs
  have hq : q / 2 ^ 4 = 0 := (nI_eq (a := q / 2 ^ 4) (b := 0) (by omega) (by omega)).mp hs
  have hq16 : q < 16 := by omega
  have e2 : nI q >>> ((4 * nI 0) &&& 31) = nI (q / 2 ^ 0) := pk_shrN q31 _ 0 (by decide)
  have e3 : (nI q >>> ((4 * nI 0) &&& 31)) &&& 15 = nI q := by
    rw [e2, Nat.pow_zero, Nat.div_one, pk_andN (by omega) 4 (by decide), show q % 2 ^ 4 = q by omega]
  rw [e3, nI_clamp q31] at h8 ⊢
  rcases ha.2 rfl with g | g
  · rw [show (8 : Int32) = nI 8 from rfl, nI_ltI (by omega) (by omega)] at g; omega
  · rw [nI_ltI (by omega) (by omega)] at g; exact g
section
variable {r l m : Nat} {h : Int32} {f_tokenTotal f_tokenLimit f_freeCount f_storedCount f_newCount f_depth f_pos f_stale f_lastVerdict f_keptCount f_parseNumber : Int32} {a_ruleLhs a_ruleLen a_ruleRhs a_cells a_tokens a_nodeRule a_nodeFirst a_nodeLast a_nodeBorn a_nodeState a_nodeLook a_nodeSize a_numberOf a_nodeBroken a_nodeReused a_kids a_freeSlots a_order a_newOrder a_headAt a_entryNode a_entryFirst a_entryState : Nat → Int32}
theorem wx_53 {post : Int32 → SX → Prop} (hm : m ≤ 4) (hl : l ≤ 11) (hacc : zs_acc l m h → wX_setRule_113 post (nI r) (nI l) (nI m) h f_tokenTotal f_tokenLimit f_freeCount f_storedCount f_newCount f_depth f_pos f_stale f_lastVerdict f_keptCount f_parseNumber a_ruleLhs a_ruleLen a_ruleRhs a_cells a_tokens a_nodeRule a_nodeFirst a_nodeLast a_nodeBorn a_nodeState a_nodeLook a_nodeSize a_numberOf a_nodeBroken a_nodeReused a_kids a_freeSlots a_order a_newOrder a_headAt a_entryNode a_entryFirst a_entryState) (hrej : ¬ zs_acc l m h → post 0 (f_tokenTotal, f_tokenLimit, f_freeCount, f_storedCount, f_newCount, f_depth, f_pos, f_stale, f_lastVerdict, f_keptCount, f_parseNumber, a_ruleLhs, a_ruleLen, a_ruleRhs, a_cells, a_tokens, a_nodeRule, a_nodeFirst, a_nodeLast, a_nodeBorn, a_nodeState, a_nodeLook, a_nodeSize, a_numberOf, a_nodeBroken, a_nodeReused, a_kids, a_freeSlots, a_order, a_newOrder, a_headAt, a_entryNode, a_entryFirst, a_entryState)) : ∀ d i, i + d = m → ∀ n, d < n → (∀ j, j < i → ¬ zs_s h j = 7 ∧ zs_s h j ≤ 11) → wX_setRule_53 post (nI r) (nI l) (nI m) h f_tokenTotal f_tokenLimit f_freeCount f_storedCount f_newCount f_depth f_pos f_stale f_lastVerdict f_keptCount f_parseNumber a_ruleLhs a_ruleLen a_ruleRhs a_cells a_tokens a_nodeRule a_nodeFirst a_nodeLast a_nodeBorn a_nodeState a_nodeLook a_nodeSize a_numberOf a_nodeBroken a_nodeReused a_kids a_freeSlots a_order a_newOrder a_headAt a_entryNode a_entryFirst a_entryState n (nI i) := by
  intro d
  induction d with
  | zero =>
    intro i hi n hn hj
    obtain ⟨n, rfl⟩ : ∃ m, n = m + 1 := ⟨n - 1, by omega⟩
    have hok : ∀ j, j < m → ¬ zs_s h j = 7 ∧ zs_s h j ≤ 11 := fun j hj' => hj j (by omega)
    refine pk_le m i (fun _ => ?_) (fun z => by omega)
    refine pk_eq m 1 (fun h1 => ?_) (fun h1 => hacc ⟨hok, fun z => absurd z h1⟩)
    by_cases c1 : h < 8
    · exact br_t c1 (hacc ⟨hok, fun _ => Or.inl c1⟩)
    · by_cases c2 : nI l < h
      · exact br_f c1 (br_t c2 (hacc ⟨hok, fun _ => Or.inr c2⟩))
      · refine br_f c1 (br_f c2 (hrej (fun z => ?_)))
        rcases z.2 h1 with g | g
        · exact c1 g
        · exact c2 g
  | succ d ih =>
    intro i hi n hn hj
    obtain ⟨n, rfl⟩ : ∃ m, n = m + 1 := ⟨n - 1, by omega⟩
    refine pk_le m i (fun z => by omega) (fun _ => nm_e ?_)
    by_cases c1 : zs_s h i = 7
    · exact br_t c1 (hrej (fun z => (z.1 i (by omega)).1 c1))
    · by_cases c2 : zs_s h i ≤ 11
      · refine br_f c1 (br_t c2 (nm_r (nI_1 i) (ih (i + 1) (by omega) n (by omega) ?_)))
        intro j hj'
        by_cases hji : j = i
        · rw [hji]; exact ⟨c1, c2⟩
        · exact hj j (by omega)
      · exact br_f c1 (br_f c2 (hrej (fun z => c2 (z.1 i (by omega)).2)))
end
section
variable {r l m : Nat} {h : Int32} {f_greatest f_count f_nodes f_olds f_entries f_pos f_result f_keptNodes f_parseNumber f_stale : Int32} {a_ruleLhs a_ruleLen a_ruleRhs a_cells a_token a_nodeRule a_nodeFirst a_nodeLast a_nodeBorn a_nodeState a_nodeLook a_nodeChild a_oldRule a_oldFirst a_oldLast a_oldBorn a_oldState a_oldLook a_entryRef a_entryState : Nat → Int32}
theorem wy_113 {post : Int32 → SY → Prop} {x y z : Int32} (hr : r < 12) (h : post 1 (f_greatest, f_count, 0, f_olds, f_entries, f_pos, f_result, f_keptNodes, f_parseNumber, 1, upd a_ruleLhs r x, upd a_ruleLen r y, upd a_ruleRhs r z, a_cells, a_token, a_nodeRule, a_nodeFirst, a_nodeLast, a_nodeBorn, a_nodeState, a_nodeLook, a_nodeChild, a_oldRule, a_oldFirst, a_oldLast, a_oldBorn, a_oldState, a_oldLook, a_entryRef, a_entryState)) : wY_setRule_113 post (nI r) x y z f_greatest f_count f_nodes f_olds f_entries f_pos f_result f_keptNodes f_parseNumber f_stale a_ruleLhs a_ruleLen a_ruleRhs a_cells a_token a_nodeRule a_nodeFirst a_nodeLast a_nodeBorn a_nodeState a_nodeLook a_nodeChild a_oldRule a_oldFirst a_oldLast a_oldBorn a_oldState a_oldLook a_entryRef a_entryState :=
  And.intro (pk_in r 12 hr) (nm_r (zz_up r rfl (by omega) rfl) (And.intro (pk_in r 12 hr) (nm_r (zz_up r rfl (by omega) rfl) (And.intro (pk_in r 12 hr) (nm_r (zz_up r rfl (by omega) rfl) h)))))
theorem wy_53 {post : Int32 → SY → Prop} (hm : m ≤ 4) (hl : l ≤ 11) (hacc : zs_acc l m h → wY_setRule_113 post (nI r) (nI l) (nI m) h f_greatest f_count f_nodes f_olds f_entries f_pos f_result f_keptNodes f_parseNumber f_stale a_ruleLhs a_ruleLen a_ruleRhs a_cells a_token a_nodeRule a_nodeFirst a_nodeLast a_nodeBorn a_nodeState a_nodeLook a_nodeChild a_oldRule a_oldFirst a_oldLast a_oldBorn a_oldState a_oldLook a_entryRef a_entryState) (hrej : ¬ zs_acc l m h → post 0 (f_greatest, f_count, f_nodes, f_olds, f_entries, f_pos, f_result, f_keptNodes, f_parseNumber, f_stale, a_ruleLhs, a_ruleLen, a_ruleRhs, a_cells, a_token, a_nodeRule, a_nodeFirst, a_nodeLast, a_nodeBorn, a_nodeState, a_nodeLook, a_nodeChild, a_oldRule, a_oldFirst, a_oldLast, a_oldBorn, a_oldState, a_oldLook, a_entryRef, a_entryState)) : ∀ d i, i + d = m → ∀ n, d < n → (∀ j, j < i → ¬ zs_s h j = 7 ∧ zs_s h j ≤ 11) → wY_setRule_53 post (nI r) (nI l) (nI m) h f_greatest f_count f_nodes f_olds f_entries f_pos f_result f_keptNodes f_parseNumber f_stale a_ruleLhs a_ruleLen a_ruleRhs a_cells a_token a_nodeRule a_nodeFirst a_nodeLast a_nodeBorn a_nodeState a_nodeLook a_nodeChild a_oldRule a_oldFirst a_oldLast a_oldBorn a_oldState a_oldLook a_entryRef a_entryState n (nI i) := by
  intro d
  induction d with
  | zero =>
    intro i hi n hn hj
    obtain ⟨n, rfl⟩ : ∃ m, n = m + 1 := ⟨n - 1, by omega⟩
    have hok : ∀ j, j < m → ¬ zs_s h j = 7 ∧ zs_s h j ≤ 11 := fun j hj' => hj j (by omega)
    refine pk_le m i (fun _ => ?_) (fun z => by omega)
    refine pk_eq m 1 (fun h1 => ?_) (fun h1 => hacc ⟨hok, fun z => absurd z h1⟩)
    by_cases c1 : h < 8
    · exact br_t c1 (hacc ⟨hok, fun _ => Or.inl c1⟩)
    · by_cases c2 : nI l < h
      · exact br_f c1 (br_t c2 (hacc ⟨hok, fun _ => Or.inr c2⟩))
      · refine br_f c1 (br_f c2 (hrej (fun z => ?_)))
        rcases z.2 h1 with g | g
        · exact c1 g
        · exact c2 g
  | succ d ih =>
    intro i hi n hn hj
    obtain ⟨n, rfl⟩ : ∃ m, n = m + 1 := ⟨n - 1, by omega⟩
    refine pk_le m i (fun z => by omega) (fun _ => nm_e ?_)
    by_cases c1 : zs_s h i = 7
    · exact br_t c1 (hrej (fun z => (z.1 i (by omega)).1 c1))
    · by_cases c2 : zs_s h i ≤ 11
      · refine br_f c1 (br_t c2 (nm_r (nI_1 i) (ih (i + 1) (by omega) n (by omega) ?_)))
        intro j hj'
        by_cases hji : j = i
        · rw [hji]; exact ⟨c1, c2⟩
        · exact hj j (by omega)
      · exact br_f c1 (br_f c2 (hrej (fun z => c2 (z.1 i (by omega)).2)))
/-- a good rule in the reference -/
theorem wy_sr {post : Int32 → SY → Prop} (hr : r < 12) (hl : 8 ≤ l ∧ l ≤ 11) (hm : 1 ≤ m ∧ m ≤ 4) (h0 : ¬ h < 0) (hs : h >>> ((4 * nI m) &&& 31) = 0) (ha : zs_acc l m h) (hp : post 1 (f_greatest, f_count, 0, f_olds, f_entries, f_pos, f_result, f_keptNodes, f_parseNumber, 1, upd a_ruleLhs r (nI l), upd a_ruleLen r (nI m), upd a_ruleRhs r h, a_cells, a_token, a_nodeRule, a_nodeFirst, a_nodeLast, a_nodeBorn, a_nodeState, a_nodeLook, a_nodeChild, a_oldRule, a_oldFirst, a_oldLast, a_oldBorn, a_oldState, a_oldLook, a_entryRef, a_entryState)) : wpY_setRule post (f_greatest, f_count, f_nodes, f_olds, f_entries, f_pos, f_result, f_keptNodes, f_parseNumber, f_stale, a_ruleLhs, a_ruleLen, a_ruleRhs, a_cells, a_token, a_nodeRule, a_nodeFirst, a_nodeLast, a_nodeBorn, a_nodeState, a_nodeLook, a_nodeChild, a_oldRule, a_oldFirst, a_oldLast, a_oldBorn, a_oldState, a_oldLook, a_entryRef, a_entryState) (nI r) (nI l) (nI m) h := by
  refine pk_lt r 0 (fun z => by omega) (fun _ => pk_lt 11 r (fun z => by omega) (fun _ => pk_lt l 8 (fun z => by omega) (fun _ => pk_lt 11 l (fun z => by omega) (fun _ => pk_lt m 1 (fun z => by omega) (fun _ => pk_le m 4 (fun _ => br_f h0 (br_t hs ⟨m + 1, ?_⟩)) (fun z => by omega))))))
  exact wy_53 hm.2 hl.2 (fun _ => wy_113 hr hp) (fun z => absurd ha z) m 0 (by omega) _ (by omega) (fun j hj => absurd hj (Nat.not_lt_zero _))
end
theorem i_vc_setRule {k : Nat} {u : SX} {v : SY} (I : i_Rel k u v) (hk : k + 5 ≤ 2562) (v1 : Int32) (v2 : Int32) (v3 : Int32) (v4 : Int32) : wpX_setRule (fun r u' => wpY_setRule (fun r' v' => r' = r ∧ i_Rel (k + 5) u' v') v v1 v2 v3 v4) u v1 v2 v3 v4 := by
  refine zz_el (P := fun u v => wpX_setRule (fun r u' => wpY_setRule (fun r' v' => r' = r ∧ i_Rel (k + 5) u' v') v v1 v2 v3 v4) u v1 v2 v3 v4) ?_ I
  intro f_newCount f_depth f_pos f_stale f_lastVerdict f_keptCount f_parseNumber a_ruleLhs a_ruleLen a_ruleRhs a_cells a_tokens a_nodeRule a_nodeFirst a_nodeLast a_nodeBorn a_nodeState a_nodeLook a_nodeSize a_numberOf a_nodeBroken a_nodeReused a_kids a_freeSlots a_order a_newOrder a_headAt a_entryNode a_entryFirst a_entryState g_olds g_entries g_pos g_result g_keptNodes b_nodeRule b_nodeFirst b_nodeLast b_nodeBorn b_nodeState b_nodeLook b_nodeChild b_oldRule b_oldFirst b_oldLast b_oldBorn b_oldState b_oldLook b_entryRef b_entryState tb W0 W K0 n0 ml o fs FF LL bk bn hG
  have hG' := hG
  obtain ⟨ht, hw, hw0, hG0, hn, hml, hS, hp, hb, hO, hO2, hY, hst, hN⟩ := hG
  have J0 := qm_Jk ht.1 hw0 K0 hG0
  have hn0 : n0 ≤ 124 := by rw [hn]; exact (qj_cnt ht.1 hw0 J0).2.2.2.1
  have R : ∀ {A : Prop}, A → A := fun h => h
  by_cases g0 : v1 < 0
  · exact br_t g0 (br_t g0 ⟨rfl, zz_mk hG'⟩)
  by_cases g1 : 11 < v1
  · exact br_f g0 (br_t g1 (br_f g0 (br_t g1 ⟨rfl, zz_mk hG'⟩)))
  by_cases g2 : v2 < 8
  · exact br_f g0 (br_f g1 (br_t g2 (br_f g0 (br_f g1 (br_t g2 ⟨rfl, zz_mk hG'⟩)))))
  by_cases g3 : 11 < v2
  · exact br_f g0 (br_f g1 (br_f g2 (br_t g3 (br_f g0 (br_f g1 (br_f g2 (br_t g3 ⟨rfl, zz_mk hG'⟩)))))))
  by_cases g4 : v3 < 1
  · exact br_f g0 (br_f g1 (br_f g2 (br_f g3 (br_t g4 (br_f g0 (br_f g1 (br_f g2 (br_f g3 (br_t g4 ⟨rfl, zz_mk hG'⟩)))))))))
  by_cases g5 : v3 ≤ 4
  · by_cases g6 : v4 < 0
    · exact br_f g0 (br_f g1 (br_f g2 (br_f g3 (br_f g4 (br_t g5 (br_t g6 (br_f g0 (br_f g1 (br_f g2 (br_f g3 (br_f g4 (br_t g5 (br_t g6 ⟨rfl, zz_mk hG'⟩)))))))))))))
    by_cases g7 : v4 >>> ((4 * v3) &&& 31) = 0
    · refine br_f g0 (br_f g1 (br_f g2 (br_f g3 (br_f g4 (br_t g5 (br_f g6 (br_t g7 ?_)))))))
      obtain ⟨r, r1, rfl⟩ := nI_of2 (n := 11) (by decide) g0 (Int32.not_lt.mp g1)
      have g2' : ¬ v2 < 0 := fun z => g2 (Int32.lt_trans z (by decide))
      obtain ⟨l, l1, rfl⟩ := nI_of2 (n := 11) (by decide) g2' (Int32.not_lt.mp g3)
      have g4' : ¬ v3 < 0 := fun z => g4 (Int32.lt_trans z (by decide))
      obtain ⟨m, m1, rfl⟩ := nI_of2 (n := 4) (by decide) g4' g5
      have l8 : 8 ≤ l := by
        have := g2
        rw [show (8 : Int32) = nI 8 from rfl, nI_ltI (by omega) (by omega)] at this
        omega
      have m8 : 1 ≤ m := by
        have := g4
        rw [show (1 : Int32) = nI 1 from rfl, nI_ltI (by omega) (by omega)] at this
        omega
      refine ⟨m + 1, wx_53 m1 l1 (fun ha => ?_) (fun ha => ?_) m 0 (by omega) _ (by omega) (fun j hj => absurd hj (Nat.not_lt_zero _))⟩
      · refine wx_pr (by omega) ?_
        refine wx_tc hn0 hS (fun i hi => (hO i hi).1) (fun fs' v16 hS' => ?_)
        refine wy_sr (by omega) ⟨l8, l1⟩ ⟨m8, m1⟩ g6 g7 ha ?_
        exact ⟨rfl, zz_new (o := o) (fs := fs') (zt_putR (zt_of ht) (zs_r ⟨l8, l1⟩ ⟨m8, m1⟩ g6 g7 ha)) hw hml hS' rfl rfl rfl rfl rfl rfl rfl rfl⟩
      · refine br_f g0 (br_f g1 (br_f g2 (br_f g3 (br_f g4 (br_t g5 (br_f g6 (br_t g7 ⟨m + 1, ?_⟩)))))))
        exact wy_53 m1 l1 (fun z => absurd z ha) (fun _ => ⟨rfl, zz_mk hG'⟩) m 0 (by omega) _ (by omega) (fun j hj => absurd hj (Nat.not_lt_zero _))
    · exact br_f g0 (br_f g1 (br_f g2 (br_f g3 (br_f g4 (br_t g5 (br_f g6 (br_f g7 (br_f g0 (br_f g1 (br_f g2 (br_f g3 (br_f g4 (br_t g5 (br_f g6 (br_f g7 ⟨rfl, zz_mk hG'⟩)))))))))))))))
  · exact br_f g0 (br_f g1 (br_f g2 (br_f g3 (br_f g4 (br_f g5 (br_f g0 (br_f g1 (br_f g2 (br_f g3 (br_f g4 (br_f g5 ⟨rfl, zz_mk hG'⟩)))))))))))
end
section
def zu_f : List (Nat × Nat) → (Nat → Int32) → Nat → Int32
  | [], a => a
  | p :: t, a => zu_f t (upd a p.1 (nI p.2))
def zp_l : Nat → List (Nat × Nat)
  | 1 => [(0, 8), (1, 8), (2, 9), (3, 9), (4, 10), (5, 10)]
  | 2 => [(0, 8), (1, 8), (2, 9), (3, 9), (4, 10), (5, 10)]
  | _ => []
def zp_n : Nat → List (Nat × Nat)
  | 1 => [(0, 3), (1, 1), (2, 3), (3, 1), (4, 3), (5, 1)]
  | 2 => [(0, 2), (1, 2), (2, 2), (3, 1), (4, 2), (5, 1)]
  | _ => []
def zp_h : Nat → List (Nat × Nat)
  | 1 => [(0, 2328), (1, 9), (2, 2601), (3, 10), (4, 1155), (5, 0)]
  | 2 => [(0, 25), (1, 42), (2, 144), (3, 0), (4, 160), (5, 0)]
  | _ => []
def zp_c : Nat → List (Nat × Nat)
  | 1 => [(0, 5), (3, 4), (8, 1), (9, 2), (10, 3), (13, 6), (19, 16), (25, 33), (26, 33), (28, 33), (31, 33), (26, 7), (37, 35), (38, 35), (40, 35), (43, 35), (48, 5), (51, 4), (56, 8), (57, 2), (58, 3), (61, 37), (62, 37), (64, 37), (67, 37), (72, 5), (75, 4), (81, 9), (82, 3), (84, 5), (87, 4), (94, 10), (97, 6), (100, 11), (109, 32), (110, 32), (112, 32), (115, 32), (110, 7), (121, 34), (122, 34), (124, 34), (127, 34), (133, 36), (134, 36), (136, 36), (139, 36)]
  | 2 => [(0, 2), (8, 1), (9, 5), (10, 7), (19, 16), (24, 2), (25, 35), (26, 37), (33, 3), (34, 4), (37, 34), (50, 36), (61, 6), (79, 32), (86, 8), (103, 33)]
  | _ => []
def zp_d : Nat → List (Nat × Nat)
  | 1 => [(0, 5), (3, 4), (8, 1), (9, 2), (10, 3), (13, 6), (19, 16), (25, 33), (26, 7), (28, 33), (31, 33), (37, 35), (38, 35), (40, 35), (43, 35), (48, 5), (51, 4), (56, 8), (57, 2), (58, 3), (61, 37), (62, 37), (64, 37), (67, 37), (72, 5), (75, 4), (81, 9), (82, 3), (84, 5), (87, 4), (94, 10), (97, 6), (100, 11), (109, 32), (110, 7), (112, 32), (115, 32), (121, 34), (122, 34), (124, 34), (127, 34), (133, 36), (134, 36), (136, 36), (139, 36)]
  | 2 => [(0, 2), (8, 1), (9, 5), (10, 7), (19, 16), (24, 2), (25, 35), (26, 37), (33, 3), (34, 4), (37, 34), (50, 36), (61, 6), (79, 32), (86, 8), (103, 33)]
  | _ => []
section
variable {f_tokenTotal f_tokenLimit f_freeCount f_storedCount f_newCount f_depth f_pos f_stale f_lastVerdict f_keptCount f_parseNumber : Int32} {a_ruleLhs a_ruleLen a_ruleRhs a_cells a_tokens a_nodeRule a_nodeFirst a_nodeLast a_nodeBorn a_nodeState a_nodeLook a_nodeSize a_numberOf a_nodeBroken a_nodeReused a_kids a_freeSlots a_order a_newOrder a_headAt a_entryNode a_entryFirst a_entryState : Nat → Int32}
theorem wx_pk {post : SX → Prop} (s c i m : Nat) (hs : s < 16) (hc : c < 12) (hi : s * 12 + c = i) (h : post (f_tokenTotal, f_tokenLimit, f_freeCount, f_storedCount, f_newCount, f_depth, f_pos, f_stale, f_lastVerdict, f_keptCount, f_parseNumber, a_ruleLhs, a_ruleLen, a_ruleRhs, upd a_cells i (nI m), a_tokens, a_nodeRule, a_nodeFirst, a_nodeLast, a_nodeBorn, a_nodeState, a_nodeLook, a_nodeSize, a_numberOf, a_nodeBroken, a_nodeReused, a_kids, a_freeSlots, a_order, a_newOrder, a_headAt, a_entryNode, a_entryFirst, a_entryState)) : wpX_putCell post (f_tokenTotal, f_tokenLimit, f_freeCount, f_storedCount, f_newCount, f_depth, f_pos, f_stale, f_lastVerdict, f_keptCount, f_parseNumber, a_ruleLhs, a_ruleLen, a_ruleRhs, a_cells, a_tokens, a_nodeRule, a_nodeFirst, a_nodeLast, a_nodeBorn, a_nodeState, a_nodeLook, a_nodeSize, a_numberOf, a_nodeBroken, a_nodeReused, a_kids, a_freeSlots, a_order, a_newOrder, a_headAt, a_entryNode, a_entryFirst, a_entryState) (nI s) (nI c) (nI m) := by
  subst hi; exact wx_pc hs hc h
theorem wx_pos {post : SX → Prop} (s i j : Nat) (hs : s < 16) (hi : s * 12 + 0 = i) (hj : s * 12 + 3 = j) (h : post (f_tokenTotal, f_tokenLimit, f_freeCount, f_storedCount, f_newCount, f_depth, f_pos, f_stale, f_lastVerdict, f_keptCount, f_parseNumber, a_ruleLhs, a_ruleLen, a_ruleRhs, upd (upd a_cells i (nI 5)) j (nI 4), a_tokens, a_nodeRule, a_nodeFirst, a_nodeLast, a_nodeBorn, a_nodeState, a_nodeLook, a_nodeSize, a_numberOf, a_nodeBroken, a_nodeReused, a_kids, a_freeSlots, a_order, a_newOrder, a_headAt, a_entryNode, a_entryFirst, a_entryState)) : wpX_putOperandStart post (f_tokenTotal, f_tokenLimit, f_freeCount, f_storedCount, f_newCount, f_depth, f_pos, f_stale, f_lastVerdict, f_keptCount, f_parseNumber, a_ruleLhs, a_ruleLen, a_ruleRhs, a_cells, a_tokens, a_nodeRule, a_nodeFirst, a_nodeLast, a_nodeBorn, a_nodeState, a_nodeLook, a_nodeSize, a_numberOf, a_nodeBroken, a_nodeReused, a_kids, a_freeSlots, a_order, a_newOrder, a_headAt, a_entryNode, a_entryFirst, a_entryState) (nI s) := by
  unfold wpX_putOperandStart
  refine wx_pk s 0 i 5 hs (by decide) hi ?_
  refine wx_pk s 3 j 4 hs (by decide) hj ?_
  exact h
theorem wx_pre {post : SX → Prop} (s m i1 i2 i3 i4 : Nat) (hs : s < 16) (h1 : s * 12 + 1 = i1) (h2 : s * 12 + 2 = i2) (h3 : s * 12 + 4 = i3) (h4 : s * 12 + 7 = i4) (h : post (f_tokenTotal, f_tokenLimit, f_freeCount, f_storedCount, f_newCount, f_depth, f_pos, f_stale, f_lastVerdict, f_keptCount, f_parseNumber, a_ruleLhs, a_ruleLen, a_ruleRhs, upd (upd (upd (upd a_cells i1 (nI m)) i2 (nI m)) i3 (nI m)) i4 (nI m), a_tokens, a_nodeRule, a_nodeFirst, a_nodeLast, a_nodeBorn, a_nodeState, a_nodeLook, a_nodeSize, a_numberOf, a_nodeBroken, a_nodeReused, a_kids, a_freeSlots, a_order, a_newOrder, a_headAt, a_entryNode, a_entryFirst, a_entryState)) : wpX_putReductions post (f_tokenTotal, f_tokenLimit, f_freeCount, f_storedCount, f_newCount, f_depth, f_pos, f_stale, f_lastVerdict, f_keptCount, f_parseNumber, a_ruleLhs, a_ruleLen, a_ruleRhs, a_cells, a_tokens, a_nodeRule, a_nodeFirst, a_nodeLast, a_nodeBorn, a_nodeState, a_nodeLook, a_nodeSize, a_numberOf, a_nodeBroken, a_nodeReused, a_kids, a_freeSlots, a_order, a_newOrder, a_headAt, a_entryNode, a_entryFirst, a_entryState) (nI s) (nI m) := by
  unfold wpX_putReductions
  refine wx_pk s 1 i1 m hs (by decide) h1 ?_
  refine wx_pk s 2 i2 m hs (by decide) h2 ?_
  refine wx_pk s 4 i3 m hs (by decide) h3 ?_
  refine wx_pk s 7 i4 m hs (by decide) h4 ?_
  exact h
theorem wx_pq {post : SX → Prop} (r l n h : Nat) (hr : r < 12) (hp : post (f_tokenTotal, f_tokenLimit, f_freeCount, f_storedCount, f_newCount, f_depth, f_pos, f_stale, f_lastVerdict, f_keptCount, f_parseNumber, upd a_ruleLhs r (nI l), upd a_ruleLen r (nI n), upd a_ruleRhs r (nI h), a_cells, a_tokens, a_nodeRule, a_nodeFirst, a_nodeLast, a_nodeBorn, a_nodeState, a_nodeLook, a_nodeSize, a_numberOf, a_nodeBroken, a_nodeReused, a_kids, a_freeSlots, a_order, a_newOrder, a_headAt, a_entryNode, a_entryFirst, a_entryState)) : wpX_putRule post (f_tokenTotal, f_tokenLimit, f_freeCount, f_storedCount, f_newCount, f_depth, f_pos, f_stale, f_lastVerdict, f_keptCount, f_parseNumber, a_ruleLhs, a_ruleLen, a_ruleRhs, a_cells, a_tokens, a_nodeRule, a_nodeFirst, a_nodeLast, a_nodeBorn, a_nodeState, a_nodeLook, a_nodeSize, a_numberOf, a_nodeBroken, a_nodeReused, a_kids, a_freeSlots, a_order, a_newOrder, a_headAt, a_entryNode, a_entryFirst, a_entryState) (nI r) (nI l) (nI n) (nI h) := wx_pr hr hp
theorem wx_p1 {post : SX → Prop} (h : post (f_tokenTotal, f_tokenLimit, f_freeCount, f_storedCount, f_newCount, f_depth, f_pos, f_stale, f_lastVerdict, f_keptCount, f_parseNumber, zu_f (zp_l 1) a_ruleLhs, zu_f (zp_n 1) a_ruleLen, zu_f (zp_h 1) a_ruleRhs, zu_f (zp_c 1) a_cells, a_tokens, a_nodeRule, a_nodeFirst, a_nodeLast, a_nodeBorn, a_nodeState, a_nodeLook, a_nodeSize, a_numberOf, a_nodeBroken, a_nodeReused, a_kids, a_freeSlots, a_order, a_newOrder, a_headAt, a_entryNode, a_entryFirst, a_entryState)) : wpX_installSums post (f_tokenTotal, f_tokenLimit, f_freeCount, f_storedCount, f_newCount, f_depth, f_pos, f_stale, f_lastVerdict, f_keptCount, f_parseNumber, a_ruleLhs, a_ruleLen, a_ruleRhs, a_cells, a_tokens, a_nodeRule, a_nodeFirst, a_nodeLast, a_nodeBorn, a_nodeState, a_nodeLook, a_nodeSize, a_numberOf, a_nodeBroken, a_nodeReused, a_kids, a_freeSlots, a_order, a_newOrder, a_headAt, a_entryNode, a_entryFirst, a_entryState) := by
  unfold wpX_installSums
  refine wx_pq 0 8 3 2328 (by decide) ?_
  refine wx_pq 1 8 1 9 (by decide) ?_
  refine wx_pq 2 9 3 2601 (by decide) ?_
  refine wx_pq 3 9 1 10 (by decide) ?_
  refine wx_pq 4 10 3 1155 (by decide) ?_
  refine wx_pq 5 10 1 0 (by decide) ?_
  refine wx_pos 0 0 3 (by decide) rfl rfl ?_
  refine wx_pk 0 8 8 1 (by decide) (by decide) rfl ?_
  refine wx_pk 0 9 9 2 (by decide) (by decide) rfl ?_
  refine wx_pk 0 10 10 3 (by decide) (by decide) rfl ?_
  refine wx_pk 1 1 13 6 (by decide) (by decide) rfl ?_
  refine wx_pk 1 7 19 16 (by decide) (by decide) rfl ?_
  refine wx_pre 2 33 25 26 28 31 (by decide) rfl rfl rfl rfl ?_
  refine wx_pk 2 2 26 7 (by decide) (by decide) rfl ?_
  refine wx_pre 3 35 37 38 40 43 (by decide) rfl rfl rfl rfl ?_
  refine wx_pos 4 48 51 (by decide) rfl rfl ?_
  refine wx_pk 4 8 56 8 (by decide) (by decide) rfl ?_
  refine wx_pk 4 9 57 2 (by decide) (by decide) rfl ?_
  refine wx_pk 4 10 58 3 (by decide) (by decide) rfl ?_
  refine wx_pre 5 37 61 62 64 67 (by decide) rfl rfl rfl rfl ?_
  refine wx_pos 6 72 75 (by decide) rfl rfl ?_
  refine wx_pk 6 9 81 9 (by decide) (by decide) rfl ?_
  refine wx_pk 6 10 82 3 (by decide) (by decide) rfl ?_
  refine wx_pos 7 84 87 (by decide) rfl rfl ?_
  refine wx_pk 7 10 94 10 (by decide) (by decide) rfl ?_
  refine wx_pk 8 1 97 6 (by decide) (by decide) rfl ?_
  refine wx_pk 8 4 100 11 (by decide) (by decide) rfl ?_
  refine wx_pre 9 32 109 110 112 115 (by decide) rfl rfl rfl rfl ?_
  refine wx_pk 9 2 110 7 (by decide) (by decide) rfl ?_
  refine wx_pre 10 34 121 122 124 127 (by decide) rfl rfl rfl rfl ?_
  refine wx_pre 11 36 133 134 136 139 (by decide) rfl rfl rfl rfl ?_
  exact h
theorem wx_p2 {post : SX → Prop} (h : post (f_tokenTotal, f_tokenLimit, f_freeCount, f_storedCount, f_newCount, f_depth, f_pos, f_stale, f_lastVerdict, f_keptCount, f_parseNumber, zu_f (zp_l 2) a_ruleLhs, zu_f (zp_n 2) a_ruleLen, zu_f (zp_h 2) a_ruleRhs, zu_f (zp_c 2) a_cells, a_tokens, a_nodeRule, a_nodeFirst, a_nodeLast, a_nodeBorn, a_nodeState, a_nodeLook, a_nodeSize, a_numberOf, a_nodeBroken, a_nodeReused, a_kids, a_freeSlots, a_order, a_newOrder, a_headAt, a_entryNode, a_entryFirst, a_entryState)) : wpX_installRuns post (f_tokenTotal, f_tokenLimit, f_freeCount, f_storedCount, f_newCount, f_depth, f_pos, f_stale, f_lastVerdict, f_keptCount, f_parseNumber, a_ruleLhs, a_ruleLen, a_ruleRhs, a_cells, a_tokens, a_nodeRule, a_nodeFirst, a_nodeLast, a_nodeBorn, a_nodeState, a_nodeLook, a_nodeSize, a_numberOf, a_nodeBroken, a_nodeReused, a_kids, a_freeSlots, a_order, a_newOrder, a_headAt, a_entryNode, a_entryFirst, a_entryState) := by
  unfold wpX_installRuns
  refine wx_pq 0 8 2 25 (by decide) ?_
  refine wx_pq 1 8 2 42 (by decide) ?_
  refine wx_pq 2 9 2 144 (by decide) ?_
  refine wx_pq 3 9 1 0 (by decide) ?_
  refine wx_pq 4 10 2 160 (by decide) ?_
  refine wx_pq 5 10 1 0 (by decide) ?_
  refine wx_pk 0 0 0 2 (by decide) (by decide) rfl ?_
  refine wx_pk 0 8 8 1 (by decide) (by decide) rfl ?_
  refine wx_pk 0 9 9 5 (by decide) (by decide) rfl ?_
  refine wx_pk 0 10 10 7 (by decide) (by decide) rfl ?_
  refine wx_pk 1 7 19 16 (by decide) (by decide) rfl ?_
  refine wx_pk 2 0 24 2 (by decide) (by decide) rfl ?_
  refine wx_pk 2 1 25 35 (by decide) (by decide) rfl ?_
  refine wx_pk 2 2 26 37 (by decide) (by decide) rfl ?_
  refine wx_pk 2 9 33 3 (by decide) (by decide) rfl ?_
  refine wx_pk 2 10 34 4 (by decide) (by decide) rfl ?_
  refine wx_pk 3 1 37 34 (by decide) (by decide) rfl ?_
  refine wx_pk 4 2 50 36 (by decide) (by decide) rfl ?_
  refine wx_pk 5 1 61 6 (by decide) (by decide) rfl ?_
  refine wx_pk 6 7 79 32 (by decide) (by decide) rfl ?_
  refine wx_pk 7 2 86 8 (by decide) (by decide) rfl ?_
  refine wx_pk 8 7 103 33 (by decide) (by decide) rfl ?_
  exact h
end
section
variable {f_greatest f_count f_nodes f_olds f_entries f_pos f_result f_keptNodes f_parseNumber f_stale : Int32} {a_ruleLhs a_ruleLen a_ruleRhs a_cells a_token a_nodeRule a_nodeFirst a_nodeLast a_nodeBorn a_nodeState a_nodeLook a_nodeChild a_oldRule a_oldFirst a_oldLast a_oldBorn a_oldState a_oldLook a_entryRef a_entryState : Nat → Int32}
theorem wy_pk {post : Int32 → SY → Prop} (s c i m : Nat) (hs : s < 16) (hc : c < 12) (hi : s * 12 + c = i) (hA : zt_A c (nI m)) (h : post 1 (f_greatest, f_count, 0, f_olds, f_entries, f_pos, f_result, f_keptNodes, f_parseNumber, 1, a_ruleLhs, a_ruleLen, a_ruleRhs, upd a_cells i (nI m), a_token, a_nodeRule, a_nodeFirst, a_nodeLast, a_nodeBorn, a_nodeState, a_nodeLook, a_nodeChild, a_oldRule, a_oldFirst, a_oldLast, a_oldBorn, a_oldState, a_oldLook, a_entryRef, a_entryState)) : wpY_setCell post (f_greatest, f_count, f_nodes, f_olds, f_entries, f_pos, f_result, f_keptNodes, f_parseNumber, f_stale, a_ruleLhs, a_ruleLen, a_ruleRhs, a_cells, a_token, a_nodeRule, a_nodeFirst, a_nodeLast, a_nodeBorn, a_nodeState, a_nodeLook, a_nodeChild, a_oldRule, a_oldFirst, a_oldLast, a_oldBorn, a_oldState, a_oldLook, a_entryRef, a_entryState) (nI s) (nI c) (nI m) := by
  subst hi; exact wy_sc hs hc (fun _ => h) (fun z => absurd hA z)
theorem wy_pq {post : Int32 → SY → Prop} (r l n h : Nat) (hr : r < 12) (hl : 8 ≤ l ∧ l ≤ 11) (hm : 1 ≤ n ∧ n ≤ 4) (h0 : ¬ nI h < 0) (hs : nI h >>> ((4 * nI n) &&& 31) = 0) (ha : zs_acc l n (nI h)) (hp : post 1 (f_greatest, f_count, 0, f_olds, f_entries, f_pos, f_result, f_keptNodes, f_parseNumber, 1, upd a_ruleLhs r (nI l), upd a_ruleLen r (nI n), upd a_ruleRhs r (nI h), a_cells, a_token, a_nodeRule, a_nodeFirst, a_nodeLast, a_nodeBorn, a_nodeState, a_nodeLook, a_nodeChild, a_oldRule, a_oldFirst, a_oldLast, a_oldBorn, a_oldState, a_oldLook, a_entryRef, a_entryState)) : wpY_setRule post (f_greatest, f_count, f_nodes, f_olds, f_entries, f_pos, f_result, f_keptNodes, f_parseNumber, f_stale, a_ruleLhs, a_ruleLen, a_ruleRhs, a_cells, a_token, a_nodeRule, a_nodeFirst, a_nodeLast, a_nodeBorn, a_nodeState, a_nodeLook, a_nodeChild, a_oldRule, a_oldFirst, a_oldLast, a_oldBorn, a_oldState, a_oldLook, a_entryRef, a_entryState) (nI r) (nI l) (nI n) (nI h) := wy_sr hr hl hm h0 hs ha hp
theorem wy_p1 {post : SY → Prop} (h : post (f_greatest, f_count, 0, f_olds, f_entries, f_pos, f_result, f_keptNodes, f_parseNumber, 1, zu_f (zp_l 1) a_ruleLhs, zu_f (zp_n 1) a_ruleLen, zu_f (zp_h 1) a_ruleRhs, zu_f (zp_d 1) a_cells, a_token, a_nodeRule, a_nodeFirst, a_nodeLast, a_nodeBorn, a_nodeState, a_nodeLook, a_nodeChild, a_oldRule, a_oldFirst, a_oldLast, a_oldBorn, a_oldState, a_oldLook, a_entryRef, a_entryState)) : wpY_loadSums post (f_greatest, f_count, f_nodes, f_olds, f_entries, f_pos, f_result, f_keptNodes, f_parseNumber, f_stale, a_ruleLhs, a_ruleLen, a_ruleRhs, a_cells, a_token, a_nodeRule, a_nodeFirst, a_nodeLast, a_nodeBorn, a_nodeState, a_nodeLook, a_nodeChild, a_oldRule, a_oldFirst, a_oldLast, a_oldBorn, a_oldState, a_oldLook, a_entryRef, a_entryState) := by
  unfold wpY_loadSums
  refine wy_pq 0 8 3 2328 (by decide) (by decide) (by decide) (by decide) (by decide) (by unfold zs_acc; decide) ?_
  refine wy_pq 1 8 1 9 (by decide) (by decide) (by decide) (by decide) (by decide) (by unfold zs_acc; decide) ?_
  refine wy_pq 2 9 3 2601 (by decide) (by decide) (by decide) (by decide) (by decide) (by unfold zs_acc; decide) ?_
  refine wy_pq 3 9 1 10 (by decide) (by decide) (by decide) (by decide) (by decide) (by unfold zs_acc; decide) ?_
  refine wy_pq 4 10 3 1155 (by decide) (by decide) (by decide) (by decide) (by decide) (by unfold zs_acc; decide) ?_
  refine wy_pq 5 10 1 0 (by decide) (by decide) (by decide) (by decide) (by decide) (by unfold zs_acc; decide) ?_
  refine wy_pk 0 0 0 5 (by decide) (by decide) rfl (by unfold zt_A zt_T zt_R; decide) ?_
  refine wy_pk 0 3 3 4 (by decide) (by decide) rfl (by unfold zt_A zt_T zt_R; decide) ?_
  refine wy_pk 0 8 8 1 (by decide) (by decide) rfl (by unfold zt_A zt_T zt_R; decide) ?_
  refine wy_pk 0 9 9 2 (by decide) (by decide) rfl (by unfold zt_A zt_T zt_R; decide) ?_
  refine wy_pk 0 10 10 3 (by decide) (by decide) rfl (by unfold zt_A zt_T zt_R; decide) ?_
  refine wy_pk 1 1 13 6 (by decide) (by decide) rfl (by unfold zt_A zt_T zt_R; decide) ?_
  refine wy_pk 1 7 19 16 (by decide) (by decide) rfl (by unfold zt_A zt_T zt_R; decide) ?_
  refine wy_pk 2 1 25 33 (by decide) (by decide) rfl (by unfold zt_A zt_T zt_R; decide) ?_
  refine wy_pk 2 2 26 7 (by decide) (by decide) rfl (by unfold zt_A zt_T zt_R; decide) ?_
  refine wy_pk 2 4 28 33 (by decide) (by decide) rfl (by unfold zt_A zt_T zt_R; decide) ?_
  refine wy_pk 2 7 31 33 (by decide) (by decide) rfl (by unfold zt_A zt_T zt_R; decide) ?_
  refine wy_pk 3 1 37 35 (by decide) (by decide) rfl (by unfold zt_A zt_T zt_R; decide) ?_
  refine wy_pk 3 2 38 35 (by decide) (by decide) rfl (by unfold zt_A zt_T zt_R; decide) ?_
  refine wy_pk 3 4 40 35 (by decide) (by decide) rfl (by unfold zt_A zt_T zt_R; decide) ?_
  refine wy_pk 3 7 43 35 (by decide) (by decide) rfl (by unfold zt_A zt_T zt_R; decide) ?_
  refine wy_pk 4 0 48 5 (by decide) (by decide) rfl (by unfold zt_A zt_T zt_R; decide) ?_
  refine wy_pk 4 3 51 4 (by decide) (by decide) rfl (by unfold zt_A zt_T zt_R; decide) ?_
  refine wy_pk 4 8 56 8 (by decide) (by decide) rfl (by unfold zt_A zt_T zt_R; decide) ?_
  refine wy_pk 4 9 57 2 (by decide) (by decide) rfl (by unfold zt_A zt_T zt_R; decide) ?_
  refine wy_pk 4 10 58 3 (by decide) (by decide) rfl (by unfold zt_A zt_T zt_R; decide) ?_
  refine wy_pk 5 1 61 37 (by decide) (by decide) rfl (by unfold zt_A zt_T zt_R; decide) ?_
  refine wy_pk 5 2 62 37 (by decide) (by decide) rfl (by unfold zt_A zt_T zt_R; decide) ?_
  refine wy_pk 5 4 64 37 (by decide) (by decide) rfl (by unfold zt_A zt_T zt_R; decide) ?_
  refine wy_pk 5 7 67 37 (by decide) (by decide) rfl (by unfold zt_A zt_T zt_R; decide) ?_
  refine wy_pk 6 0 72 5 (by decide) (by decide) rfl (by unfold zt_A zt_T zt_R; decide) ?_
  refine wy_pk 6 3 75 4 (by decide) (by decide) rfl (by unfold zt_A zt_T zt_R; decide) ?_
  refine wy_pk 6 9 81 9 (by decide) (by decide) rfl (by unfold zt_A zt_T zt_R; decide) ?_
  refine wy_pk 6 10 82 3 (by decide) (by decide) rfl (by unfold zt_A zt_T zt_R; decide) ?_
  refine wy_pk 7 0 84 5 (by decide) (by decide) rfl (by unfold zt_A zt_T zt_R; decide) ?_
  refine wy_pk 7 3 87 4 (by decide) (by decide) rfl (by unfold zt_A zt_T zt_R; decide) ?_
  refine wy_pk 7 10 94 10 (by decide) (by decide) rfl (by unfold zt_A zt_T zt_R; decide) ?_
  refine wy_pk 8 1 97 6 (by decide) (by decide) rfl (by unfold zt_A zt_T zt_R; decide) ?_
  refine wy_pk 8 4 100 11 (by decide) (by decide) rfl (by unfold zt_A zt_T zt_R; decide) ?_
  refine wy_pk 9 1 109 32 (by decide) (by decide) rfl (by unfold zt_A zt_T zt_R; decide) ?_
  refine wy_pk 9 2 110 7 (by decide) (by decide) rfl (by unfold zt_A zt_T zt_R; decide) ?_
  refine wy_pk 9 4 112 32 (by decide) (by decide) rfl (by unfold zt_A zt_T zt_R; decide) ?_
  refine wy_pk 9 7 115 32 (by decide) (by decide) rfl (by unfold zt_A zt_T zt_R; decide) ?_
  refine wy_pk 10 1 121 34 (by decide) (by decide) rfl (by unfold zt_A zt_T zt_R; decide) ?_
  refine wy_pk 10 2 122 34 (by decide) (by decide) rfl (by unfold zt_A zt_T zt_R; decide) ?_
  refine wy_pk 10 4 124 34 (by decide) (by decide) rfl (by unfold zt_A zt_T zt_R; decide) ?_
  refine wy_pk 10 7 127 34 (by decide) (by decide) rfl (by unfold zt_A zt_T zt_R; decide) ?_
  refine wy_pk 11 1 133 36 (by decide) (by decide) rfl (by unfold zt_A zt_T zt_R; decide) ?_
  refine wy_pk 11 2 134 36 (by decide) (by decide) rfl (by unfold zt_A zt_T zt_R; decide) ?_
  refine wy_pk 11 4 136 36 (by decide) (by decide) rfl (by unfold zt_A zt_T zt_R; decide) ?_
  refine wy_pk 11 7 139 36 (by decide) (by decide) rfl (by unfold zt_A zt_T zt_R; decide) ?_
  exact h
theorem wy_p2 {post : SY → Prop} (h : post (f_greatest, f_count, 0, f_olds, f_entries, f_pos, f_result, f_keptNodes, f_parseNumber, 1, zu_f (zp_l 2) a_ruleLhs, zu_f (zp_n 2) a_ruleLen, zu_f (zp_h 2) a_ruleRhs, zu_f (zp_d 2) a_cells, a_token, a_nodeRule, a_nodeFirst, a_nodeLast, a_nodeBorn, a_nodeState, a_nodeLook, a_nodeChild, a_oldRule, a_oldFirst, a_oldLast, a_oldBorn, a_oldState, a_oldLook, a_entryRef, a_entryState)) : wpY_loadRuns post (f_greatest, f_count, f_nodes, f_olds, f_entries, f_pos, f_result, f_keptNodes, f_parseNumber, f_stale, a_ruleLhs, a_ruleLen, a_ruleRhs, a_cells, a_token, a_nodeRule, a_nodeFirst, a_nodeLast, a_nodeBorn, a_nodeState, a_nodeLook, a_nodeChild, a_oldRule, a_oldFirst, a_oldLast, a_oldBorn, a_oldState, a_oldLook, a_entryRef, a_entryState) := by
  unfold wpY_loadRuns
  refine wy_pq 0 8 2 25 (by decide) (by decide) (by decide) (by decide) (by decide) (by unfold zs_acc; decide) ?_
  refine wy_pq 1 8 2 42 (by decide) (by decide) (by decide) (by decide) (by decide) (by unfold zs_acc; decide) ?_
  refine wy_pq 2 9 2 144 (by decide) (by decide) (by decide) (by decide) (by decide) (by unfold zs_acc; decide) ?_
  refine wy_pq 3 9 1 0 (by decide) (by decide) (by decide) (by decide) (by decide) (by unfold zs_acc; decide) ?_
  refine wy_pq 4 10 2 160 (by decide) (by decide) (by decide) (by decide) (by decide) (by unfold zs_acc; decide) ?_
  refine wy_pq 5 10 1 0 (by decide) (by decide) (by decide) (by decide) (by decide) (by unfold zs_acc; decide) ?_
  refine wy_pk 0 0 0 2 (by decide) (by decide) rfl (by unfold zt_A zt_T zt_R; decide) ?_
  refine wy_pk 0 8 8 1 (by decide) (by decide) rfl (by unfold zt_A zt_T zt_R; decide) ?_
  refine wy_pk 0 9 9 5 (by decide) (by decide) rfl (by unfold zt_A zt_T zt_R; decide) ?_
  refine wy_pk 0 10 10 7 (by decide) (by decide) rfl (by unfold zt_A zt_T zt_R; decide) ?_
  refine wy_pk 1 7 19 16 (by decide) (by decide) rfl (by unfold zt_A zt_T zt_R; decide) ?_
  refine wy_pk 2 0 24 2 (by decide) (by decide) rfl (by unfold zt_A zt_T zt_R; decide) ?_
  refine wy_pk 2 1 25 35 (by decide) (by decide) rfl (by unfold zt_A zt_T zt_R; decide) ?_
  refine wy_pk 2 2 26 37 (by decide) (by decide) rfl (by unfold zt_A zt_T zt_R; decide) ?_
  refine wy_pk 2 9 33 3 (by decide) (by decide) rfl (by unfold zt_A zt_T zt_R; decide) ?_
  refine wy_pk 2 10 34 4 (by decide) (by decide) rfl (by unfold zt_A zt_T zt_R; decide) ?_
  refine wy_pk 3 1 37 34 (by decide) (by decide) rfl (by unfold zt_A zt_T zt_R; decide) ?_
  refine wy_pk 4 2 50 36 (by decide) (by decide) rfl (by unfold zt_A zt_T zt_R; decide) ?_
  refine wy_pk 5 1 61 6 (by decide) (by decide) rfl (by unfold zt_A zt_T zt_R; decide) ?_
  refine wy_pk 6 7 79 32 (by decide) (by decide) rfl (by unfold zt_A zt_T zt_R; decide) ?_
  refine wy_pk 7 2 86 8 (by decide) (by decide) rfl (by unfold zt_A zt_T zt_R; decide) ?_
  refine wy_pk 8 7 103 33 (by decide) (by decide) rfl (by unfold zt_A zt_T zt_R; decide) ?_
  exact h
end
end
section
def zz_z (a : Nat → Int32) (i : Nat) : Nat → Int32 := fun j => if j < i then 0 else a j
theorem zz_z0 (a : Nat → Int32) : zz_z a 0 = a := by
  funext j; unfold zz_z; rw [if_neg (Nat.not_lt_zero _)]
theorem zz_z1 (a : Nat → Int32) (i : Nat) : upd (zz_z a i) i 0 = zz_z a (i + 1) := by
  funext j
  by_cases h : j = i
  · rw [h, pk_us]; unfold zz_z; rw [if_pos (Nat.lt_succ_self _)]
  · rw [pk_un h]; unfold zz_z
    by_cases h1 : j < i
    · rw [if_pos h1, if_pos (by omega)]
    · rw [if_neg h1, if_neg (by omega)]
theorem zu_cg {j : Nat} : ∀ (l : List (Nat × Nat)) (a b : Nat → Int32), a j = b j → zu_f l a j = zu_f l b j := by
  intro l
  induction l with
  | nil => intro a b h; exact h
  | cons p t ih =>
    intro a b h
    refine ih _ _ ?_
    by_cases hj : j = p.1
    · rw [hj, pk_us, pk_us]
    · rw [pk_un hj, pk_un hj]; exact h
theorem zu_hi {j n : Nat} (hj : n ≤ j) : ∀ (l : List (Nat × Nat)) (a : Nat → Int32), (∀ p, p ∈ l → p.1 < n) → zu_f l a j = a j := by
  intro l
  induction l with
  | nil => intro a _; rfl
  | cons p t ih =>
    intro a h
    have hp := h p (List.mem_cons_self)
    show zu_f t (upd a p.1 (nI p.2)) j = a j
    rw [ih _ (fun q hq => h q (List.mem_cons_of_mem _ hq)), pk_un (by omega)]
theorem zp_keys : (∀ p, p ∈ zp_c 1 → p.1 < 192) ∧ (∀ p, p ∈ zp_d 1 → p.1 < 192) := by decide
theorem zp_same1 : ∀ j, j < 192 → zu_f (zp_d 1) (fun _ => 0) j = zu_f (zp_c 1) (fun _ => 0) j := by decide +kernel
theorem zp_same (a : Nat → Int32) {k : Nat} (hk : k ≤ 2) : zu_f (zp_d k) (zz_z a 192) = zu_f (zp_c k) (zz_z a 192) := by
  have h3 : k = 0 ∨ k = 1 ∨ k = 2 := by omega
  rcases h3 with rfl | rfl | rfl
  · rfl
  · funext j
    by_cases hj : j < 192
    · have e : zz_z a 192 j = (fun _ => (0 : Int32)) j := if_pos hj
      rw [zu_cg (zp_d 1) _ (fun _ => 0) e, zu_cg (zp_c 1) _ (fun _ => 0) e]
      exact zp_same1 j hj
    · rw [zu_hi (n := 192) (by omega) _ _ zp_keys.1, zu_hi (n := 192) (by omega) _ _ zp_keys.2]
  · rfl
def zt_rD (l n h : Int32) : Decidable (zt_r l n h) := by unfold zt_r; infer_instance
def zt_cD (c : Nat) (v : Int32) : Decidable (zt_c c v) := by unfold zt_c; infer_instance
theorem zp_r0 : ∀ k, k < 3 → ∀ r, r < 12 → zt_r (zu_f (zp_l k) (fun _ => 0) r) (zu_f (zp_n k) (fun _ => 0) r) (zu_f (zp_h k) (fun _ => 0) r) := by
  intro k hk r hr
  have H : ∀ k, k < 3 → ∀ r, r < 12 → (@decide (zt_r (zu_f (zp_l k) (fun _ => 0) r) (zu_f (zp_n k) (fun _ => 0) r) (zu_f (zp_h k) (fun _ => 0) r)) (zt_rD _ _ _)) = true := by decide +kernel
  exact @of_decide_eq_true _ (zt_rD _ _ _) (H k hk r hr)
theorem zp_c0 : ∀ k, k < 3 → ∀ j, j < 192 → zt_c (j % 12) (zu_f (zp_c k) (fun _ => 0) j) := by
  intro k hk j hj
  have H : ∀ k, k < 3 → ∀ j, j < 192 → (@decide (zt_c (j % 12) (zu_f (zp_c k) (fun _ => 0) j)) (zt_cD _ _)) = true := by decide +kernel
  exact @of_decide_eq_true _ (zt_cD _ _) (H k hk j hj)
theorem zp_ok {a_ruleLhs a_ruleLen a_ruleRhs a_cells : Nat → Int32} {k : Nat} (hk : k ≤ 2) : zt_ok (zu_f (zp_l k) (zz_z a_ruleLhs 12)) (zu_f (zp_n k) (zz_z a_ruleLen 12)) (zu_f (zp_h k) (zz_z a_ruleRhs 12)) (zu_f (zp_c k) (zz_z a_cells 192)) := by
  refine ⟨?_, ?_⟩
  · intro r hr
    have e : ∀ a : Nat → Int32, zz_z a 12 r = (fun _ => (0 : Int32)) r := fun a => if_pos hr
    rw [zu_cg _ _ (fun _ => 0) (e a_ruleLhs), zu_cg _ _ (fun _ => 0) (e a_ruleLen), zu_cg _ _ (fun _ => 0) (e a_ruleRhs)]
    exact zp_r0 k (by omega) r hr
  · intro j hj
    have e : ∀ a : Nat → Int32, zz_z a 192 j = (fun _ => (0 : Int32)) j := fun a => if_pos hj
    rw [zu_cg _ _ (fun _ => 0) (e a_cells)]
    exact zp_c0 k (by omega) j hj
section
variable {k : Nat} {f_tokenTotal f_tokenLimit f_freeCount f_storedCount f_newCount f_depth f_pos f_stale f_lastVerdict f_keptCount f_parseNumber : Int32} {a_ruleLhs a_ruleLen a_ruleRhs a_cells a_tokens a_nodeRule a_nodeFirst a_nodeLast a_nodeBorn a_nodeState a_nodeLook a_nodeSize a_numberOf a_nodeBroken a_nodeReused a_kids a_freeSlots a_order a_newOrder a_headAt a_entryNode a_entryFirst a_entryState : Nat → Int32}
theorem wx_ipE {post : SX → Prop} (hk : k ≤ 2) (h : post (f_tokenTotal, f_tokenLimit, f_freeCount, f_storedCount, f_newCount, f_depth, f_pos, f_stale, f_lastVerdict, f_keptCount, f_parseNumber, zu_f (zp_l k) a_ruleLhs, zu_f (zp_n k) a_ruleLen, zu_f (zp_h k) a_ruleRhs, zu_f (zp_c k) a_cells, a_tokens, a_nodeRule, a_nodeFirst, a_nodeLast, a_nodeBorn, a_nodeState, a_nodeLook, a_nodeSize, a_numberOf, a_nodeBroken, a_nodeReused, a_kids, a_freeSlots, a_order, a_newOrder, a_headAt, a_entryNode, a_entryFirst, a_entryState)) (n : Nat) : wX_installPreset_24 post (nI k) f_tokenTotal f_tokenLimit f_freeCount f_storedCount f_newCount f_depth f_pos f_stale f_lastVerdict f_keptCount f_parseNumber (n + 1) (nI 192) a_ruleLhs a_ruleLen a_ruleRhs a_cells a_tokens a_nodeRule a_nodeFirst a_nodeLast a_nodeBorn a_nodeState a_nodeLook a_nodeSize a_numberOf a_nodeBroken a_nodeReused a_kids a_freeSlots a_order a_newOrder a_headAt a_entryNode a_entryFirst a_entryState := by
  have h3 : k = 0 ∨ k = 1 ∨ k = 2 := by omega
  refine pk_le 192 192 (fun _ => ?_) (fun z => by omega)
  rcases h3 with rfl | rfl | rfl
  · exact br_f (by decide) (br_f (by decide) h)
  · refine br_t rfl ?_
    refine wx_p1 ?_
    exact br_f (by decide) h
  · refine br_f (by decide) (br_t rfl ?_)
    exact wx_p2 h
theorem wx_ip24 {post : SX → Prop} {a : Nat → Int32} (hk : k ≤ 2) (h : post (f_tokenTotal, f_tokenLimit, f_freeCount, f_storedCount, f_newCount, f_depth, f_pos, f_stale, f_lastVerdict, f_keptCount, f_parseNumber, zu_f (zp_l k) a_ruleLhs, zu_f (zp_n k) a_ruleLen, zu_f (zp_h k) a_ruleRhs, zu_f (zp_c k) (zz_z a 192), a_tokens, a_nodeRule, a_nodeFirst, a_nodeLast, a_nodeBorn, a_nodeState, a_nodeLook, a_nodeSize, a_numberOf, a_nodeBroken, a_nodeReused, a_kids, a_freeSlots, a_order, a_newOrder, a_headAt, a_entryNode, a_entryFirst, a_entryState)) : ∀ d i, i + d = 192 → ∀ n, d < n → wX_installPreset_24 post (nI k) f_tokenTotal f_tokenLimit f_freeCount f_storedCount f_newCount f_depth f_pos f_stale f_lastVerdict f_keptCount f_parseNumber n (nI i) a_ruleLhs a_ruleLen a_ruleRhs (zz_z a i) a_tokens a_nodeRule a_nodeFirst a_nodeLast a_nodeBorn a_nodeState a_nodeLook a_nodeSize a_numberOf a_nodeBroken a_nodeReused a_kids a_freeSlots a_order a_newOrder a_headAt a_entryNode a_entryFirst a_entryState := by
  intro d
  induction d with
  | zero =>
    intro i hi n hn
    obtain ⟨n, rfl⟩ : ∃ m, n = m + 1 := ⟨n - 1, by omega⟩
    rw [show i = 192 by omega]
    exact wx_ipE hk h n
  | succ d ih =>
    intro i hi n hn
    obtain ⟨n, rfl⟩ : ∃ m, n = m + 1 := ⟨n - 1, by omega⟩
    refine pk_le 192 i (fun z => by omega) (fun _ => ?_)
    refine And.intro (pk_in i 192 (by omega)) (nm_r (e' := zz_z a (i + 1)) ?_ (nm_r (nI_1 i) (ih (i + 1) (by omega) n (by omega))))
    rw [zz_up i rfl (by omega) rfl]
    exact zz_z1 a i
theorem wx_ip2 {post : SX → Prop} {aL aN aH : Nat → Int32} (hk : k ≤ 2) (h : post (f_tokenTotal, f_tokenLimit, f_freeCount, f_storedCount, f_newCount, f_depth, f_pos, f_stale, f_lastVerdict, f_keptCount, f_parseNumber, zu_f (zp_l k) (zz_z aL 12), zu_f (zp_n k) (zz_z aN 12), zu_f (zp_h k) (zz_z aH 12), zu_f (zp_c k) (zz_z a_cells 192), a_tokens, a_nodeRule, a_nodeFirst, a_nodeLast, a_nodeBorn, a_nodeState, a_nodeLook, a_nodeSize, a_numberOf, a_nodeBroken, a_nodeReused, a_kids, a_freeSlots, a_order, a_newOrder, a_headAt, a_entryNode, a_entryFirst, a_entryState)) : ∀ d i, i + d = 12 → ∀ n, d < n → wX_installPreset_2 post (nI k) n (nI i) f_tokenTotal f_tokenLimit f_freeCount f_storedCount f_newCount f_depth f_pos f_stale f_lastVerdict f_keptCount f_parseNumber (zz_z aL i) (zz_z aN i) (zz_z aH i) a_cells a_tokens a_nodeRule a_nodeFirst a_nodeLast a_nodeBorn a_nodeState a_nodeLook a_nodeSize a_numberOf a_nodeBroken a_nodeReused a_kids a_freeSlots a_order a_newOrder a_headAt a_entryNode a_entryFirst a_entryState := by
  intro d
  induction d with
  | zero =>
    intro i hi n hn
    obtain ⟨n, rfl⟩ : ∃ m, n = m + 1 := ⟨n - 1, by omega⟩
    rw [show i = 12 by omega]
    refine pk_le 12 12 (fun _ => ⟨193, ?_⟩) (fun z => by omega)
    have H := wx_ip24 (k := k) (post := post) (a := a_cells) (f_tokenTotal := f_tokenTotal) (f_tokenLimit := f_tokenLimit) (f_freeCount := f_freeCount) (f_storedCount := f_storedCount) (f_newCount := f_newCount) (f_depth := f_depth) (f_pos := f_pos) (f_stale := f_stale) (f_lastVerdict := f_lastVerdict) (f_keptCount := f_keptCount) (f_parseNumber := f_parseNumber) (a_ruleLhs := zz_z aL 12) (a_ruleLen := zz_z aN 12) (a_ruleRhs := zz_z aH 12) (a_tokens := a_tokens) (a_nodeRule := a_nodeRule) (a_nodeFirst := a_nodeFirst) (a_nodeLast := a_nodeLast) (a_nodeBorn := a_nodeBorn) (a_nodeState := a_nodeState) (a_nodeLook := a_nodeLook) (a_nodeSize := a_nodeSize) (a_numberOf := a_numberOf) (a_nodeBroken := a_nodeBroken) (a_nodeReused := a_nodeReused) (a_kids := a_kids) (a_freeSlots := a_freeSlots) (a_order := a_order) (a_newOrder := a_newOrder) (a_headAt := a_headAt) (a_entryNode := a_entryNode) (a_entryFirst := a_entryFirst) (a_entryState := a_entryState) hk h 192 0 (by omega) 193 (by omega)
    rw [zz_z0] at H
    exact H
  | succ d ih =>
    intro i hi n hn
    obtain ⟨n, rfl⟩ : ∃ m, n = m + 1 := ⟨n - 1, by omega⟩
    refine pk_le 12 i (fun z => by omega) (fun _ => ?_)
    refine wx_pr (by omega) ?_
    rw [zz_z1, zz_z1, zz_z1]
    exact nm_r (nI_1 i) (ih (i + 1) (by omega) n (by omega))
theorem wx_ip {post : SX → Prop} (hk : k ≤ 2) (h : post (f_tokenTotal, f_tokenLimit, f_freeCount, f_storedCount, f_newCount, f_depth, f_pos, f_stale, f_lastVerdict, f_keptCount, f_parseNumber, zu_f (zp_l k) (zz_z a_ruleLhs 12), zu_f (zp_n k) (zz_z a_ruleLen 12), zu_f (zp_h k) (zz_z a_ruleRhs 12), zu_f (zp_c k) (zz_z a_cells 192), a_tokens, a_nodeRule, a_nodeFirst, a_nodeLast, a_nodeBorn, a_nodeState, a_nodeLook, a_nodeSize, a_numberOf, a_nodeBroken, a_nodeReused, a_kids, a_freeSlots, a_order, a_newOrder, a_headAt, a_entryNode, a_entryFirst, a_entryState)) : wpX_installPreset post (f_tokenTotal, f_tokenLimit, f_freeCount, f_storedCount, f_newCount, f_depth, f_pos, f_stale, f_lastVerdict, f_keptCount, f_parseNumber, a_ruleLhs, a_ruleLen, a_ruleRhs, a_cells, a_tokens, a_nodeRule, a_nodeFirst, a_nodeLast, a_nodeBorn, a_nodeState, a_nodeLook, a_nodeSize, a_numberOf, a_nodeBroken, a_nodeReused, a_kids, a_freeSlots, a_order, a_newOrder, a_headAt, a_entryNode, a_entryFirst, a_entryState) (nI k) := by
  have H := wx_ip2 (k := k) (post := post) (aL := a_ruleLhs) (aN := a_ruleLen) (aH := a_ruleRhs) (f_tokenTotal := f_tokenTotal) (f_tokenLimit := f_tokenLimit) (f_freeCount := f_freeCount) (f_storedCount := f_storedCount) (f_newCount := f_newCount) (f_depth := f_depth) (f_pos := f_pos) (f_stale := f_stale) (f_lastVerdict := f_lastVerdict) (f_keptCount := f_keptCount) (f_parseNumber := f_parseNumber) (a_cells := a_cells) (a_tokens := a_tokens) (a_nodeRule := a_nodeRule) (a_nodeFirst := a_nodeFirst) (a_nodeLast := a_nodeLast) (a_nodeBorn := a_nodeBorn) (a_nodeState := a_nodeState) (a_nodeLook := a_nodeLook) (a_nodeSize := a_nodeSize) (a_numberOf := a_numberOf) (a_nodeBroken := a_nodeBroken) (a_nodeReused := a_nodeReused) (a_kids := a_kids) (a_freeSlots := a_freeSlots) (a_order := a_order) (a_newOrder := a_newOrder) (a_headAt := a_headAt) (a_entryNode := a_entryNode) (a_entryFirst := a_entryFirst) (a_entryState := a_entryState) hk h 12 0 (by omega) 13 (by omega)
  rw [zz_z0, zz_z0, zz_z0] at H
  exact ⟨13, H⟩
end
section
variable {k : Nat} {f_greatest f_count f_nodes f_olds f_entries f_pos f_result f_keptNodes f_parseNumber f_stale : Int32} {a_ruleLhs a_ruleLen a_ruleRhs a_cells a_token a_nodeRule a_nodeFirst a_nodeLast a_nodeBorn a_nodeState a_nodeLook a_nodeChild a_oldRule a_oldFirst a_oldLast a_oldBorn a_oldState a_oldLook a_entryRef a_entryState : Nat → Int32}
theorem wy_lpE {post : Int32 → SY → Prop} (hk : k ≤ 2) (h : post 1 (f_greatest, f_count, 0, f_olds, f_entries, f_pos, f_result, f_keptNodes, f_parseNumber, 1, zu_f (zp_l k) a_ruleLhs, zu_f (zp_n k) a_ruleLen, zu_f (zp_h k) a_ruleRhs, zu_f (zp_d k) a_cells, a_token, a_nodeRule, a_nodeFirst, a_nodeLast, a_nodeBorn, a_nodeState, a_nodeLook, a_nodeChild, a_oldRule, a_oldFirst, a_oldLast, a_oldBorn, a_oldState, a_oldLook, a_entryRef, a_entryState)) (n : Nat) : wY_loadPreset_48 post (nI k) f_greatest f_count f_nodes f_olds f_entries f_pos f_result f_keptNodes f_parseNumber f_stale (n + 1) (nI 192) a_ruleLhs a_ruleLen a_ruleRhs a_cells a_token a_nodeRule a_nodeFirst a_nodeLast a_nodeBorn a_nodeState a_nodeLook a_nodeChild a_oldRule a_oldFirst a_oldLast a_oldBorn a_oldState a_oldLook a_entryRef a_entryState := by
  have h3 : k = 0 ∨ k = 1 ∨ k = 2 := by omega
  refine pk_le 192 192 (fun _ => ?_) (fun z => by omega)
  rcases h3 with rfl | rfl | rfl
  · exact br_f (by decide) (br_f (by decide) h)
  · refine br_t rfl ?_
    refine wy_p1 ?_
    exact br_f (by decide) h
  · refine br_f (by decide) (br_t rfl ?_)
    exact wy_p2 h
theorem wy_lp48 {post : Int32 → SY → Prop} {a : Nat → Int32} (hk : k ≤ 2) (h : post 1 (f_greatest, f_count, 0, f_olds, f_entries, f_pos, f_result, f_keptNodes, f_parseNumber, 1, zu_f (zp_l k) a_ruleLhs, zu_f (zp_n k) a_ruleLen, zu_f (zp_h k) a_ruleRhs, zu_f (zp_d k) (zz_z a 192), a_token, a_nodeRule, a_nodeFirst, a_nodeLast, a_nodeBorn, a_nodeState, a_nodeLook, a_nodeChild, a_oldRule, a_oldFirst, a_oldLast, a_oldBorn, a_oldState, a_oldLook, a_entryRef, a_entryState)) : ∀ d i, i + d = 192 → ∀ n, d < n → wY_loadPreset_48 post (nI k) f_greatest f_count f_nodes f_olds f_entries f_pos f_result f_keptNodes f_parseNumber f_stale n (nI i) a_ruleLhs a_ruleLen a_ruleRhs (zz_z a i) a_token a_nodeRule a_nodeFirst a_nodeLast a_nodeBorn a_nodeState a_nodeLook a_nodeChild a_oldRule a_oldFirst a_oldLast a_oldBorn a_oldState a_oldLook a_entryRef a_entryState := by
  intro d
  induction d with
  | zero =>
    intro i hi n hn
    obtain ⟨n, rfl⟩ : ∃ m, n = m + 1 := ⟨n - 1, by omega⟩
    rw [show i = 192 by omega]
    exact wy_lpE hk h n
  | succ d ih =>
    intro i hi n hn
    obtain ⟨n, rfl⟩ : ∃ m, n = m + 1 := ⟨n - 1, by omega⟩
    refine pk_le 192 i (fun z => by omega) (fun _ => ?_)
    refine And.intro (pk_in i 192 (by omega)) (nm_r (e' := zz_z a (i + 1)) ?_ (nm_r (nI_1 i) (ih (i + 1) (by omega) n (by omega))))
    rw [zz_up i rfl (by omega) rfl]
    exact zz_z1 a i
theorem wy_lp13 {post : Int32 → SY → Prop} {aL aN aH : Nat → Int32} (hk : k ≤ 2) (h : post 1 (f_greatest, f_count, 0, f_olds, f_entries, f_pos, f_result, f_keptNodes, f_parseNumber, 1, zu_f (zp_l k) (zz_z aL 12), zu_f (zp_n k) (zz_z aN 12), zu_f (zp_h k) (zz_z aH 12), zu_f (zp_d k) (zz_z a_cells 192), a_token, a_nodeRule, a_nodeFirst, a_nodeLast, a_nodeBorn, a_nodeState, a_nodeLook, a_nodeChild, a_oldRule, a_oldFirst, a_oldLast, a_oldBorn, a_oldState, a_oldLook, a_entryRef, a_entryState)) : ∀ d i, i + d = 12 → ∀ n, d < n → wY_loadPreset_13 post (nI k) f_greatest f_count f_nodes f_olds f_entries f_pos f_result f_keptNodes f_parseNumber f_stale n (nI i) (zz_z aL i) (zz_z aN i) (zz_z aH i) a_cells a_token a_nodeRule a_nodeFirst a_nodeLast a_nodeBorn a_nodeState a_nodeLook a_nodeChild a_oldRule a_oldFirst a_oldLast a_oldBorn a_oldState a_oldLook a_entryRef a_entryState := by
  intro d
  induction d with
  | zero =>
    intro i hi n hn
    obtain ⟨n, rfl⟩ : ∃ m, n = m + 1 := ⟨n - 1, by omega⟩
    rw [show i = 12 by omega]
    refine pk_le 12 12 (fun _ => ⟨193, ?_⟩) (fun z => by omega)
    have H := wy_lp48 (k := k) (post := post) (a := a_cells) (f_greatest := f_greatest) (f_count := f_count) (f_nodes := f_nodes) (f_olds := f_olds) (f_entries := f_entries) (f_pos := f_pos) (f_result := f_result) (f_keptNodes := f_keptNodes) (f_parseNumber := f_parseNumber) (f_stale := f_stale) (a_ruleLhs := zz_z aL 12) (a_ruleLen := zz_z aN 12) (a_ruleRhs := zz_z aH 12) (a_token := a_token) (a_nodeRule := a_nodeRule) (a_nodeFirst := a_nodeFirst) (a_nodeLast := a_nodeLast) (a_nodeBorn := a_nodeBorn) (a_nodeState := a_nodeState) (a_nodeLook := a_nodeLook) (a_nodeChild := a_nodeChild) (a_oldRule := a_oldRule) (a_oldFirst := a_oldFirst) (a_oldLast := a_oldLast) (a_oldBorn := a_oldBorn) (a_oldState := a_oldState) (a_oldLook := a_oldLook) (a_entryRef := a_entryRef) (a_entryState := a_entryState) hk h 192 0 (by omega) 193 (by omega)
    rw [zz_z0] at H
    exact H
  | succ d ih =>
    intro i hi n hn
    obtain ⟨n, rfl⟩ : ∃ m, n = m + 1 := ⟨n - 1, by omega⟩
    have vi : vp_in (nI i) 12 := pk_in i 12 (by omega)
    have e : ∀ a : Nat → Int32, upd (zz_z a i) (nI i).toNatClampNeg 0 = zz_z a (i + 1) := by
      intro a; rw [zz_up i rfl (by omega) rfl]; exact zz_z1 a i
    refine pk_le 12 i (fun z => by omega) (fun _ => ?_)
    exact And.intro vi (nm_r (e aL) (And.intro vi (nm_r (e aN) (And.intro vi (nm_r (e aH) (nm_r (nI_1 i) (ih (i + 1) (by omega) n (by omega))))))))
theorem wy_lp {post : Int32 → SY → Prop} (hk : k ≤ 2) (h : post 1 (f_greatest, f_count, 0, f_olds, f_entries, f_pos, f_result, f_keptNodes, f_parseNumber, 1, zu_f (zp_l k) (zz_z a_ruleLhs 12), zu_f (zp_n k) (zz_z a_ruleLen 12), zu_f (zp_h k) (zz_z a_ruleRhs 12), zu_f (zp_d k) (zz_z a_cells 192), a_token, a_nodeRule, a_nodeFirst, a_nodeLast, a_nodeBorn, a_nodeState, a_nodeLook, a_nodeChild, a_oldRule, a_oldFirst, a_oldLast, a_oldBorn, a_oldState, a_oldLook, a_entryRef, a_entryState)) : wpY_loadPreset post (f_greatest, f_count, f_nodes, f_olds, f_entries, f_pos, f_result, f_keptNodes, f_parseNumber, f_stale, a_ruleLhs, a_ruleLen, a_ruleRhs, a_cells, a_token, a_nodeRule, a_nodeFirst, a_nodeLast, a_nodeBorn, a_nodeState, a_nodeLook, a_nodeChild, a_oldRule, a_oldFirst, a_oldLast, a_oldBorn, a_oldState, a_oldLook, a_entryRef, a_entryState) (nI k) := by
  have H := wy_lp13 (k := k) (post := post) (aL := a_ruleLhs) (aN := a_ruleLen) (aH := a_ruleRhs) (f_greatest := f_greatest) (f_count := f_count) (f_nodes := f_nodes) (f_olds := f_olds) (f_entries := f_entries) (f_pos := f_pos) (f_result := f_result) (f_keptNodes := f_keptNodes) (f_parseNumber := f_parseNumber) (f_stale := f_stale) (a_cells := a_cells) (a_token := a_token) (a_nodeRule := a_nodeRule) (a_nodeFirst := a_nodeFirst) (a_nodeLast := a_nodeLast) (a_nodeBorn := a_nodeBorn) (a_nodeState := a_nodeState) (a_nodeLook := a_nodeLook) (a_nodeChild := a_nodeChild) (a_oldRule := a_oldRule) (a_oldFirst := a_oldFirst) (a_oldLast := a_oldLast) (a_oldBorn := a_oldBorn) (a_oldState := a_oldState) (a_oldLook := a_oldLook) (a_entryRef := a_entryRef) (a_entryState := a_entryState) hk h 12 0 (by omega) 13 (by omega)
  rw [zz_z0, zz_z0, zz_z0] at H
  exact pk_lt k 0 (fun z => by omega) (fun _ => pk_le k 2 (fun _ => ⟨13, H⟩) (fun z => by omega))
end
theorem i_vc_loadPreset {k : Nat} {u : SX} {v : SY} (I : i_Rel k u v) (hk : k + 5 ≤ 2562) (v1 : Int32) : wpX_loadPreset (fun r u' => wpY_loadPreset (fun r' v' => r' = r ∧ i_Rel (k + 5) u' v') v v1) u v1 := by
  refine zz_el (P := fun u v => wpX_loadPreset (fun r u' => wpY_loadPreset (fun r' v' => r' = r ∧ i_Rel (k + 5) u' v') v v1) u v1) ?_ I
  intro f_newCount f_depth f_pos f_stale f_lastVerdict f_keptCount f_parseNumber a_ruleLhs a_ruleLen a_ruleRhs a_cells a_tokens a_nodeRule a_nodeFirst a_nodeLast a_nodeBorn a_nodeState a_nodeLook a_nodeSize a_numberOf a_nodeBroken a_nodeReused a_kids a_freeSlots a_order a_newOrder a_headAt a_entryNode a_entryFirst a_entryState g_olds g_entries g_pos g_result g_keptNodes b_nodeRule b_nodeFirst b_nodeLast b_nodeBorn b_nodeState b_nodeLook b_nodeChild b_oldRule b_oldFirst b_oldLast b_oldBorn b_oldState b_oldLook b_entryRef b_entryState tb W0 W K0 n0 ml o fs FF LL bk bn hG
  have hG' := hG
  obtain ⟨ht, hw, hw0, hG0, hn, hml, hS, hp, hb, hO, hO2, hY, hst, hN⟩ := hG
  have J0 := qm_Jk ht.1 hw0 K0 hG0
  have hn0 : n0 ≤ 124 := by rw [hn]; exact (qj_cnt ht.1 hw0 J0).2.2.2.1
  by_cases g0 : v1 < 0
  · exact br_t g0 (br_t g0 ⟨rfl, zz_mk hG'⟩)
  by_cases g1 : v1 ≤ 2
  · obtain ⟨q, q1, rfl⟩ := nI_of2 (n := 2) (by decide) g0 g1
    refine br_f g0 (br_t g1 ?_)
    refine wx_ip q1 ?_
    refine wx_tc hn0 hS (fun i hi => (hO i hi).1) (fun fs' v16 hS' => ?_)
    refine wy_lp q1 ?_
    exact ⟨rfl, zz_new (o := o) (fs := fs') (zp_ok q1) hw hml hS' rfl rfl rfl rfl rfl rfl (zp_same _ q1) rfl⟩
  · exact br_f g0 (br_f g1 (br_f g0 (br_f g1 ⟨rfl, zz_mk hG'⟩)))
end
section
theorem zi_lim (k0 : Int32) : ∃ ml, ml ≤ 16 ∧ (∀ (post : SX → Prop) (p1 : Int32), wX_init_234 post p1 0 (nI ml) 0 0 0 0 0 0 0 0 0 (fun _ => 0) (fun _ => 0) (fun _ => 0) (fun _ => 0) (fun _ => 0) (fun _ => 0) (fun _ => 0) (fun _ => 0) (fun _ => 0) (fun _ => 0) (fun _ => 0) (fun _ => 0) (fun _ => 0) (fun _ => 0) (fun _ => 0) (fun _ => 0) (fun _ => 0) (fun _ => 0) (fun _ => 0) (fun _ => 0) (fun _ => 0) (fun _ => 0) (fun _ => 0) → wpX_init post k0 p1) ∧ (∀ (post : SY → Prop) (p1 : Int32), wY_init_200 post p1 (nI ml) 0 0 0 0 0 0 0 0 0 0 (fun _ => 0) (fun _ => 0) (fun _ => 0) (fun _ => 0) (fun _ => 0) (fun _ => 0) (fun _ => 0) (fun _ => 0) (fun _ => 0) (fun _ => 0) (fun _ => 0) (fun _ => 0) (fun _ => 0) (fun _ => 0) (fun _ => 0) (fun _ => 0) (fun _ => 0) (fun _ => 0) (fun _ => 0) (fun _ => 0) → wpY_init post k0 p1) := by
  by_cases c1 : 4 ≤ k0
  · by_cases c2 : k0 ≤ 16
    · have h0 : ¬ k0 < 0 := fun z => by
        have := Int32.lt_of_lt_of_le z (Int32.le_trans (by decide : (0 : Int32) ≤ 4) c1)
        exact Int32.lt_irrefl this
      obtain ⟨ml, m1, rfl⟩ := nI_of2 (n := 16) (by decide) h0 c2
      exact ⟨ml, m1, fun post p1 h => br_t c1 (br_t c2 h), fun post p1 h => br_t c1 (br_t c2 h)⟩
    · exact ⟨16, by omega, fun post p1 h => br_t c1 (br_f c2 h), fun post p1 h => br_t c1 (br_f c2 h)⟩
  · exact ⟨4, by omega, fun post p1 h => br_f c1 (br_t (by decide) h), fun post p1 h => br_f c1 h⟩
theorem zi_pre (k1 : Int32) {f_tokenTotal f_tokenLimit f_freeCount f_storedCount f_newCount f_depth f_pos f_stale f_lastVerdict f_keptCount f_parseNumber : Int32} {a_ruleLhs a_ruleLen a_ruleRhs a_cells a_tokens a_nodeRule a_nodeFirst a_nodeLast a_nodeBorn a_nodeState a_nodeLook a_nodeSize a_numberOf a_nodeBroken a_nodeReused a_kids a_freeSlots a_order a_newOrder a_headAt a_entryNode a_entryFirst a_entryState : Nat → Int32} {g_greatest g_count g_nodes g_olds g_entries g_pos g_result g_keptNodes g_parseNumber g_stale : Int32} {b_ruleLhs b_ruleLen b_ruleRhs b_cells b_token b_nodeRule b_nodeFirst b_nodeLast b_nodeBorn b_nodeState b_nodeLook b_nodeChild b_oldRule b_oldFirst b_oldLast b_oldBorn b_oldState b_oldLook b_entryRef b_entryState : Nat → Int32} : ∃ q, q ≤ 2 ∧ (∀ post : SX → Prop, (∃ n : Nat, wX_init_252 post (nI q) f_tokenTotal f_tokenLimit f_freeCount f_storedCount f_newCount f_depth f_pos f_stale f_lastVerdict f_keptCount f_parseNumber n 0 a_ruleLhs a_ruleLen a_ruleRhs a_cells a_tokens a_nodeRule a_nodeFirst a_nodeLast a_nodeBorn a_nodeState a_nodeLook a_nodeSize a_numberOf a_nodeBroken a_nodeReused a_kids a_freeSlots a_order a_newOrder a_headAt a_entryNode a_entryFirst a_entryState) → wX_init_234 post k1 f_tokenTotal f_tokenLimit f_freeCount f_storedCount f_newCount f_depth f_pos f_stale f_lastVerdict f_keptCount f_parseNumber a_ruleLhs a_ruleLen a_ruleRhs a_cells a_tokens a_nodeRule a_nodeFirst a_nodeLast a_nodeBorn a_nodeState a_nodeLook a_nodeSize a_numberOf a_nodeBroken a_nodeReused a_kids a_freeSlots a_order a_newOrder a_headAt a_entryNode a_entryFirst a_entryState) ∧ (∀ (post : SY → Prop) (z0 : Int32), wY_init_221 post (nI q) z0 g_count g_nodes g_olds g_entries g_pos g_result g_keptNodes g_parseNumber g_stale b_ruleLhs b_ruleLen b_ruleRhs b_cells b_token b_nodeRule b_nodeFirst b_nodeLast b_nodeBorn b_nodeState b_nodeLook b_nodeChild b_oldRule b_oldFirst b_oldLast b_oldBorn b_oldState b_oldLook b_entryRef b_entryState → wY_init_200 post k1 z0 g_greatest g_count g_nodes g_olds g_entries g_pos g_result g_keptNodes g_parseNumber g_stale b_ruleLhs b_ruleLen b_ruleRhs b_cells b_token b_nodeRule b_nodeFirst b_nodeLast b_nodeBorn b_nodeState b_nodeLook b_nodeChild b_oldRule b_oldFirst b_oldLast b_oldBorn b_oldState b_oldLook b_entryRef b_entryState) := by
  by_cases c1 : 0 ≤ k1
  · by_cases c2 : k1 ≤ 2
    · obtain ⟨q, q1, rfl⟩ := nI_of2 (n := 2) (by decide) (Int32.not_lt.mpr c1) c2
      exact ⟨q, q1, fun post h => br_t c1 (br_t c2 h), fun post z0 h => br_t c1 (br_t c2 h)⟩
    · exact ⟨2, by omega, fun post h => br_t c1 (br_f c2 h), fun post z0 h => br_t c1 (br_f c2 h)⟩
  · exact ⟨0, by omega, fun post h => br_f c1 (br_t (by decide) h), fun post z0 h => br_f c1 h⟩
section
variable {k : Nat} {f_tokenTotal f_tokenLimit f_freeCount f_storedCount f_newCount f_depth f_pos f_stale f_lastVerdict f_keptCount f_parseNumber : Int32} {a_ruleLhs a_ruleLen a_ruleRhs a_cells a_tokens a_nodeRule a_nodeFirst a_nodeLast a_nodeBorn a_nodeState a_nodeLook a_nodeSize a_numberOf a_nodeBroken a_nodeReused a_kids a_freeSlots a_order a_newOrder a_headAt a_entryNode a_entryFirst a_entryState : Nat → Int32}
theorem wx_252 {post : SX → Prop} (hk : k ≤ 2) (h : ∀ v16 : Nat → Int32, (∀ j, j < 248 → v16 j = nI (247 - j)) → post (f_tokenTotal, f_tokenLimit, 248, f_storedCount, f_newCount, f_depth, f_pos, 1, f_lastVerdict, f_keptCount, f_parseNumber, zu_f (zp_l k) (zz_z a_ruleLhs 12), zu_f (zp_n k) (zz_z a_ruleLen 12), zu_f (zp_h k) (zz_z a_ruleRhs 12), zu_f (zp_c k) (zz_z a_cells 192), a_tokens, a_nodeRule, a_nodeFirst, a_nodeLast, a_nodeBorn, a_nodeState, a_nodeLook, a_nodeSize, a_numberOf, a_nodeBroken, a_nodeReused, a_kids, v16, a_order, a_newOrder, a_headAt, a_entryNode, a_entryFirst, a_entryState)) : ∀ d i, i + d = 248 → ∀ n, d < n → ∀ v16 : Nat → Int32, (∀ j, j < i → v16 j = nI (247 - j)) → wX_init_252 post (nI k) f_tokenTotal f_tokenLimit f_freeCount f_storedCount f_newCount f_depth f_pos f_stale f_lastVerdict f_keptCount f_parseNumber n (nI i) a_ruleLhs a_ruleLen a_ruleRhs a_cells a_tokens a_nodeRule a_nodeFirst a_nodeLast a_nodeBorn a_nodeState a_nodeLook a_nodeSize a_numberOf a_nodeBroken a_nodeReused a_kids v16 a_order a_newOrder a_headAt a_entryNode a_entryFirst a_entryState := by
  intro d
  induction d with
  | zero =>
    intro i hi n hn v16 hv
    obtain ⟨n, rfl⟩ : ∃ m, n = m + 1 := ⟨n - 1, by omega⟩
    refine pk_le 248 i (fun _ => ?_) (fun z => by omega)
    refine wx_ip hk ?_
    exact h v16 (fun j hj => hv j (by omega))
  | succ d ih =>
    intro i hi n hn v16 hv
    obtain ⟨n, rfl⟩ : ∃ m, n = m + 1 := ⟨n - 1, by omega⟩
    refine pk_le 248 i (fun z => by omega) (fun _ => ?_)
    refine And.intro (pk_in i 248 (by omega)) (nm_r (zz_up (w := nI (247 - i)) i rfl (by omega) ?_) (nm_r (nI_1 i) (ih (i + 1) (by omega) n (by omega) _ ?_)))
    · rw [show (247 : Int32) = nI 247 from rfl, pk_sub (by omega)]
    · intro j hj
      by_cases hji : j = i
      · rw [hji, pk_us]
      · rw [pk_un hji]; exact hv j (by omega)
end
theorem i_vc0 (k0 : Int32) (k1 : Int32) : wpX_init (fun u => wpY_init (fun v => i_Rel 2 u v) k0 k1) k0 k1 := by
  obtain ⟨ml, m1, hX, hY⟩ := zi_lim k0
  obtain ⟨q, q1, pX, pY⟩ := zi_pre k1 (f_tokenTotal := 0) (f_tokenLimit := nI ml) (f_freeCount := 0) (f_storedCount := 0) (f_newCount := 0) (f_depth := 0) (f_pos := 0) (f_stale := 0) (f_lastVerdict := 0) (f_keptCount := 0) (f_parseNumber := 0) (a_ruleLhs := fun _ => 0) (a_ruleLen := fun _ => 0) (a_ruleRhs := fun _ => 0) (a_cells := fun _ => 0) (a_tokens := fun _ => 0) (a_nodeRule := fun _ => 0) (a_nodeFirst := fun _ => 0) (a_nodeLast := fun _ => 0) (a_nodeBorn := fun _ => 0) (a_nodeState := fun _ => 0) (a_nodeLook := fun _ => 0) (a_nodeSize := fun _ => 0) (a_numberOf := fun _ => 0) (a_nodeBroken := fun _ => 0) (a_nodeReused := fun _ => 0) (a_kids := fun _ => 0) (a_freeSlots := fun _ => 0) (a_order := fun _ => 0) (a_newOrder := fun _ => 0) (a_headAt := fun _ => 0) (a_entryNode := fun _ => 0) (a_entryFirst := fun _ => 0) (a_entryState := fun _ => 0) (g_greatest := 0) (g_count := 0) (g_nodes := 0) (g_olds := 0) (g_entries := 0) (g_pos := 0) (g_result := 0) (g_keptNodes := 0) (g_parseNumber := 0) (g_stale := 0) (b_ruleLhs := fun _ => 0) (b_ruleLen := fun _ => 0) (b_ruleRhs := fun _ => 0) (b_cells := fun _ => 0) (b_token := fun _ => 0) (b_nodeRule := fun _ => 0) (b_nodeFirst := fun _ => 0) (b_nodeLast := fun _ => 0) (b_nodeBorn := fun _ => 0) (b_nodeState := fun _ => 0) (b_nodeLook := fun _ => 0) (b_nodeChild := fun _ => 0) (b_oldRule := fun _ => 0) (b_oldFirst := fun _ => 0) (b_oldLast := fun _ => 0) (b_oldBorn := fun _ => 0) (b_oldState := fun _ => 0) (b_oldLook := fun _ => 0) (b_entryRef := fun _ => 0) (b_entryState := fun _ => 0)
  refine hX _ _ (pX _ ⟨249, ?_⟩)
  refine wx_252 q1 (fun v16 hv => ?_) 248 0 (by omega) 249 (by omega) _ (fun j hj => absurd hj (Nat.not_lt_zero _))
  refine hY _ _ (pY _ _ ?_)
  unfold wY_init_221
  refine wy_lp q1 ?_
  refine zz_new (W := (fun _ => 0, 0)) (ml := ml) (o := fun _ => 0) (fs := fun j => 247 - j) (zp_ok q1) ⟨by decide, fun p hp => absurd hp (Nat.not_lt_zero _)⟩ ⟨Nat.zero_le _, m1⟩ ⟨fun x y hx => absurd hx (Nat.not_lt_zero _), fun i hi => absurd hi (Nat.not_lt_zero _), fun j hj => ⟨?_, hv j hj, fun i hi => absurd hi (Nat.not_lt_zero _)⟩, fun x y hx hy hxy => ?_⟩ rfl rfl rfl rfl rfl rfl (zp_same _ q1) rfl
  · show 247 - j < 248; omega
  · have hxy' : 247 - x = 247 - y := hxy
    omega
end
